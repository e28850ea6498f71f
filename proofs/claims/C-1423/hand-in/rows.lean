section
/-! ===== Int32 as the image of Int ===== -/
def jI (z : Int) : Int32 := Int32.ofInt z
theorem jI_nI (n : Nat) : nI n = jI (n : Int) := Int32.ofInt_eq_ofNat.symm
theorem jI_toInt {a : Int} (h1 : -2147483648 ≤ a) (h2 : a < 2147483648) : (jI a).toInt = a := Int32.toInt_ofInt_of_le (by omega) (by omega)
theorem jI_ex (x : Int32) : ∃ z : Int, -2147483648 ≤ z ∧ z < 2147483648 ∧ x = jI z :=
  ⟨x.toInt, by have := x.le_toInt; omega, by have := x.toInt_lt; omega, (Int32.ofInt_toInt x).symm⟩
theorem jI_add (a b : Int) : jI a + jI b = jI (a + b) := (Int32.ofInt_add a b).symm
theorem jI_sub (a b : Int) : jI a - jI b = jI (a - b) := (Int32.ofInt_sub a b).symm
theorem jI_mul (a b : Int) : jI a * jI b = jI (a * b) := (Int32.ofInt_mul a b).symm
theorem jI_neg (a : Int) : -jI a = jI (-a) := (Int32.ofInt_neg a).symm
theorem jI_le {a b : Int} (h1 : -2147483648 ≤ a) (h2 : a < 2147483648) (h3 : -2147483648 ≤ b) (h4 : b < 2147483648) : jI a ≤ jI b ↔ a ≤ b := by
  rw [Int32.le_iff_toInt_le, jI_toInt h1 h2, jI_toInt h3 h4]
theorem jI_lt {a b : Int} (h1 : -2147483648 ≤ a) (h2 : a < 2147483648) (h3 : -2147483648 ≤ b) (h4 : b < 2147483648) : jI a < jI b ↔ a < b := by
  rw [Int32.lt_iff_toInt_lt, jI_toInt h1 h2, jI_toInt h3 h4]
theorem jI_eq {a b : Int} (h1 : -2147483648 ≤ a) (h2 : a < 2147483648) (h3 : -2147483648 ≤ b) (h4 : b < 2147483648) : jI a = jI b ↔ a = b := by
  rw [← Int32.toInt_inj, jI_toInt h1 h2, jI_toInt h3 h4]
theorem jI_leT {a b : Int} (h : -2147483648 ≤ a ∧ a ≤ b ∧ b < 2147483648) : (jI a ≤ jI b) = True :=
  eq_true ((jI_le (by omega) (by omega) (by omega) (by omega)).mpr h.2.1)
theorem jI_leF {a b : Int} (h : -2147483648 ≤ b ∧ b < a ∧ a < 2147483648) : (jI a ≤ jI b) = False :=
  eq_false (fun z => by have := (jI_le (by omega) (by omega) (by omega) (by omega)).mp z; omega)
theorem jI_ltT {a b : Int} (h : -2147483648 ≤ a ∧ a < b ∧ b < 2147483648) : (jI a < jI b) = True :=
  eq_true ((jI_lt (by omega) (by omega) (by omega) (by omega)).mpr h.2.1)
theorem jI_ltF {a b : Int} (h : -2147483648 ≤ b ∧ b ≤ a ∧ a < 2147483648) : (jI a < jI b) = False :=
  eq_false (fun z => by have := (jI_lt (by omega) (by omega) (by omega) (by omega)).mp z; omega)
theorem jI_eqT {a b : Int} (h : a = b) : (jI a = jI b) = True := eq_true (congrArg jI h)
theorem jI_eqF {a b : Int} (h : (a < b ∨ b < a) ∧ -2147483648 ≤ a ∧ a < 2147483648 ∧ -2147483648 ≤ b ∧ b < 2147483648) : (jI a = jI b) = False :=
  eq_false (fun z => by have := (jI_eq (by omega) (by omega) (by omega) (by omega)).mp z; omega)
theorem jI_cl {a : Int} (h : -2147483648 ≤ a ∧ a < 2147483648) : (jI a).toNatClampNeg = a.toNat :=
  Int32.toNatClampNeg_ofInt_of_le (by omega) (by omega)
theorem jI_inT {a : Int} {n : Nat} (h : 0 ≤ a ∧ a < n ∧ a < 2147483648) : vp_in (jI a) n = True :=
  eq_true (vp_in_iff.mpr (by rw [jI_toInt (by omega) (by omega)]; exact ⟨h.1, h.2.1⟩))
theorem jI_div {a b : Int} (h : 0 ≤ a ∧ a < 2147483648 ∧ 0 < b ∧ b < 2147483648) : jI a / jI b = jI (a / b) := by
  have h1 : 0 ≤ a / b := Int.ediv_nonneg h.1 (by omega)
  have h2 : a / b ≤ a := Int.ediv_le_self _ h.1
  apply Int32.toInt_inj.mp
  rw [lg_idiv_nonneg (by rw [jI_toInt (by omega) (by omega)]; omega) (by rw [jI_toInt (by omega) (by omega)]; omega), jI_toInt (by omega) (by omega), jI_toInt (by omega) (by omega), jI_toInt (by omega) (by omega)]
theorem ie_mod (a b : Int) : a - a / b * b = a % b := by rw [Int.emod_def, Int.mul_comm]
theorem jl_0 : (0 : Int32) = jI 0 := rfl
theorem jl_1 : (1 : Int32) = jI 1 := rfl
theorem jl_2 : (2 : Int32) = jI 2 := rfl
theorem jl_3 : (3 : Int32) = jI 3 := rfl
theorem jl_4 : (4 : Int32) = jI 4 := rfl
theorem jl_5 : (5 : Int32) = jI 5 := rfl
theorem jl_6 : (6 : Int32) = jI 6 := rfl
theorem jl_7 : (7 : Int32) = jI 7 := rfl
theorem jl_8 : (8 : Int32) = jI 8 := rfl
theorem jl_9 : (9 : Int32) = jI 9 := rfl
theorem jl_12 : (12 : Int32) = jI 12 := rfl
theorem jl_13 : (13 : Int32) = jI 13 := rfl
theorem jl_16 : (16 : Int32) = jI 16 := rfl
theorem jl_24 : (24 : Int32) = jI 24 := rfl
theorem jl_25 : (25 : Int32) = jI 25 := rfl
theorem jl_50 : (50 : Int32) = jI 50 := rfl
theorem jl_168 : (168 : Int32) = jI 168 := rfl
theorem jl_169 : (169 : Int32) = jI 169 := rfl
theorem jl_624 : (624 : Int32) = jI 624 := rfl
theorem jl_625 : (625 : Int32) = jI 625 := rfl
theorem jl_1000 : (1000 : Int32) = jI 1000 := rfl
theorem jl_196608 : (196608 : Int32) = jI 196608 := rfl
/-! ===== booleans ===== -/
def b2 (b : Bool) : Int32 := if b then 1 else 0
theorem b2_T : b2 true = jI 1 := rfl
theorem b2_F : b2 false = jI 0 := rfl
theorem b2_0 (b : Bool) : (b2 b = jI 0) = (b = false) := by cases b <;> decide
theorem b2_1 (b : Bool) : (b2 b = jI 1) = (b = true) := by cases b <;> decide
theorem b2_z (b : Bool) : (b2 b = 0) = (b = false) := by cases b <;> decide
theorem b2_inj {a b : Bool} : (b2 a = b2 b) = (a = b) := by cases a <;> cases b <;> decide
theorem b2_or (a b : Bool) : b2 a ||| b2 b = b2 (a || b) := by cases a <;> cases b <;> decide
theorem b2_nar (b : Bool) : vp_nar .boolean (b2 b) = b2 b := by cases b <;> rfl
theorem b2_nr (b : Bool) : narrow .boolean (.int (b2 b)) = .int (b2 b) := by cases b <;> rfl
theorem nb_0 : vp_nar .boolean (jI 0) = b2 false := rfl
theorem nb_1 : vp_nar .boolean (jI 1) = b2 true := rfl
theorem tf_c {b : Bool} {A B : Prop} (f : b = false → A) (g : b = true → B) : (b = false → A) ∧ (¬ b = false → B) :=
  ⟨f, fun h => g (by cases b <;> simp_all)⟩
/-! ===== arrays ===== -/
def fl (f : Nat → Int32) (m : Int) (g : Int → Int32) : Nat → Int32 := fun k => if (k : Int) < m then g k else f k
theorem fl_0 (f : Nat → Int32) (g : Int → Int32) : fl f 0 g = f := by
  funext k; unfold fl; rw [if_neg (by omega)]
theorem fl_s (f : Nat → Int32) {m : Int} (g : Int → Int32) (h : 0 ≤ m) : upd (fl f m g) m.toNat (g m) = fl f (m + 1) g := by
  funext k; unfold upd fl
  by_cases e : k = m.toNat
  · rw [if_pos e, if_pos (by omega), e]; congr 1; omega
  · rw [if_neg e]
    by_cases e2 : (k : Int) < m
    · rw [if_pos e2, if_pos (by omega)]
    · rw [if_neg e2, if_neg (by omega)]
theorem fl_S (f : Nat → Int32) {m : Int} (g : Int → Int32) {x : Int32} (h : 0 ≤ m) (hx : x = g m) : upd (fl f m g) m.toNat x = fl f (m + 1) g := by
  rw [hx]; exact fl_s f g h
theorem fl_r {f : Nat → Int32} {m : Int} {g : Int → Int32} {z : Int} (h : 0 ≤ z ∧ z < m) : fl f m g z.toNat = g z := by
  unfold fl; rw [if_pos (by omega)]; congr 1; omega
theorem fl_o {f : Nat → Int32} {m : Int} {g : Int → Int32} {z : Int} (h : m ≤ z ∧ 0 ≤ z) : fl f m g z.toNat = f z.toNat := by
  unfold fl; rw [if_neg (by omega)]
def wr (f : Nat → Int32) (o m : Int) (g : Int → Int32) : Nat → Int32 := fun k => if o ≤ (k : Int) ∧ (k : Int) < o + m then g (k - o) else f k
theorem wr_0 (f : Nat → Int32) (o : Int) (g : Int → Int32) : wr f o 0 g = f := by
  funext k; unfold wr; rw [if_neg (by omega)]
theorem wr_S (f : Nat → Int32) {o m : Int} (g : Int → Int32) {x : Int32} (h : 0 ≤ o ∧ 0 ≤ m) (hx : x = g m) : upd (wr f o m g) (o + m).toNat x = wr f o (m + 1) g := by
  funext k; unfold upd wr
  by_cases e : k = (o + m).toNat
  · rw [if_pos e, if_pos (by omega), hx]; congr 1; omega
  · rw [if_neg e]
    by_cases e2 : o ≤ (k : Int) ∧ (k : Int) < o + m
    · rw [if_pos e2, if_pos (by omega)]
    · rw [if_neg e2, if_neg (by omega)]
theorem wr_r {f : Nat → Int32} {o m : Int} {g : Int → Int32} {z : Int} (h : 0 ≤ o ∧ 0 ≤ z ∧ z < m) : wr f o m g (o + z).toNat = g z := by
  unfold wr; rw [if_pos (by omega)]; congr 1; omega
theorem wr_o {f : Nat → Int32} {o m : Int} {g : Int → Int32} {z : Int} (h : 0 ≤ z ∧ (z < o ∨ o + m ≤ z)) : wr f o m g z.toNat = f z.toNat := by
  unfold wr; rw [if_neg (by omega)]
theorem up_s {f : Nat → Int32} {k : Int} {x : Int32} : upd f k.toNat x k.toNat = x := if_pos rfl
theorem up_n {f : Nat → Int32} {k z : Int} {x : Int32} (h : 0 ≤ k ∧ 0 ≤ z ∧ (k < z ∨ z < k)) : upd f k.toNat x z.toNat = f z.toNat := if_neg (by omega)
/-! ===== loops ===== -/
theorem lj_d {σ : Type} (W : Nat → Int → σ → Prop) (F : Int → σ) (lo e : Int) (hx : ∀ n, W (n + 1) e (F e))
    (hs : ∀ n i, lo ≤ i → i < e → W n (i + 1) (F (i + 1)) → W (n + 1) i (F i)) : ∀ (d : Nat) (i : Int), lo ≤ i → i + d = e → W (d + 1) i (F i) := by
  intro d
  induction d with
  | zero => intro i _ hi; have : i = e := by omega
            subst this; exact hx 0
  | succ d ih => intro i h0 hi; exact hs _ _ h0 (by omega) (ih (i + 1) (by omega) (by omega))
theorem lj_a {σ : Type} (W : Nat → Int → σ → Prop) (F : Int → σ) (lo e : Int) {s0 : σ} (h0 : s0 = F lo) (hle : lo ≤ e) (hx : ∀ n, W (n + 1) e (F e))
    (hs : ∀ n i, lo ≤ i → i < e → W n (i + 1) (F (i + 1)) → W (n + 1) i (F i)) : ∃ n, W n lo s0 := by
  subst h0
  exact ⟨_, lj_d W F lo e hx hs (e - lo).toNat lo (by omega) (by omega)⟩
/-- down: from e to -1 -/
theorem lj_down {σ : Type} (W : Nat → Int → σ → Prop) (F : Int → σ) (e : Int) {s0 : σ} (h0 : s0 = F e) (he : -1 ≤ e) (hx : ∀ n, W (n + 1) (-1) (F (-1)))
    (hs : ∀ n i, 0 ≤ i → i ≤ e → W n (i - 1) (F (i - 1)) → W (n + 1) i (F i)) : ∃ n, W n e s0 := by
  subst h0
  have key : ∀ (d : Nat) (i : Int), i ≤ e → i + 1 = d → W (d + 1) i (F i) := by
    intro d
    induction d with
    | zero => intro i _ hi; have : i = -1 := by omega
              subst this; exact hx 0
    | succ d ih => intro i h1 hi; exact hs _ _ (by omega) h1 (ih (i - 1) (by omega) (by omega))
  exact ⟨_, key (e + 1).toNat e (by omega) (by omega)⟩
/-- an invariant, up -/
theorem lj_i {σ : Type} (W : Nat → Int → σ → Prop) (I : Int → σ → Prop) (lo e : Int) {s0 : σ} (h0 : I lo s0) (hle : lo ≤ e) (hx : ∀ n s, I e s → W (n + 1) e s)
    (hs : ∀ n i s, lo ≤ i → i < e → I i s → (∀ s', I (i + 1) s' → W n (i + 1) s') → W (n + 1) i s) : ∃ n, W n lo s0 := by
  have key : ∀ (d : Nat) (i : Int) (s : σ), lo ≤ i → i + d = e → I i s → W (d + 1) i s := by
    intro d
    induction d with
    | zero => intro i s _ hi hI; have : i = e := by omega
              subst this; exact hx 0 s hI
    | succ d ih => intro i s h1 hi hI; exact hs _ _ s h1 (by omega) hI (fun s' h' => ih (i + 1) s' (by omega) (by omega) h')
  exact ⟨_, key (e - lo).toNat lo s0 (by omega) (by omega) h0⟩
/-- an invariant, down to -1 -/
theorem lj_id {σ : Type} (W : Nat → Int → σ → Prop) (I : Int → σ → Prop) (e : Int) {s0 : σ} (h0 : I e s0) (he : -1 ≤ e) (hx : ∀ n s, I (-1) s → W (n + 1) (-1) s)
    (hs : ∀ n i s, 0 ≤ i → i ≤ e → I i s → (∀ s', I (i - 1) s' → W n (i - 1) s') → W (n + 1) i s) : ∃ n, W n e s0 := by
  have key : ∀ (d : Nat) (i : Int) (s : σ), i ≤ e → i + 1 = d → I i s → W (d + 1) i s := by
    intro d
    induction d with
    | zero => intro i s _ hi hI; have : i = -1 := by omega
              subst this; exact hx 0 s hI
    | succ d ih => intro i s h1 hi hI; exact hs _ _ s (by omega) h1 hI (fun s' h' => ih (i - 1) s' (by omega) (by omega) h')
  exact ⟨_, key (e + 1).toNat e s0 (by omega) (by omega) h0⟩
end
section
/-! ===== Int32 by its bits (rows of the kit's BITS family, pasted) ===== -/
def bt (x : Int32) (i : Nat) : Bool := x.toBitVec.getLsbD i
theorem b_ext {x y : Int32} (h : ∀ i, i < 32 → bt x i = bt y i) : x = y := Int32.toBitVec_inj.mp (BitVec.eq_of_getLsbD_eq (fun i hi => h i hi))
theorem b_or (x y : Int32) (i : Nat) : bt (x ||| y) i = (bt x i || bt y i) := by unfold bt; rw [Int32.toBitVec_or, BitVec.getLsbD_or]
theorem b_and (x y : Int32) (i : Nat) : bt (x &&& y) i = (bt x i && bt y i) := by unfold bt; rw [Int32.toBitVec_and, BitVec.getLsbD_and]
theorem b_xor (x y : Int32) (i : Nat) : bt (x ^^^ y) i = (bt x i ^^ bt y i) := by unfold bt; rw [Int32.toBitVec_xor, BitVec.getLsbD_xor]
theorem b_m1 : ∀ i, i < 32 → bt (-1) i = true := by decide +kernel
theorem b_0 (i : Nat) : bt 0 i = false := BitVec.getLsbD_zero
theorem s_l : ∀ n, n < 32 → ((nI n &&& 31).toBitVec.smod 32).toNat = n := by decide +kernel
theorem s_u : ∀ n, n < 32 → (((nI n).toUInt32 &&& Int32.toUInt32 31).toBitVec % 32).toNat = n := by decide +kernel
theorem b_shl (n : Nat) (hn : n < 32) (x : Int32) {i : Nat} (hi : i < 32) : bt (x <<< (nI n &&& 31)) i = (decide (n ≤ i) && bt x (i - n)) := by
  unfold bt
  rw [Int32.toBitVec_shiftLeft]
  show (x.toBitVec <<< ((nI n &&& 31).toBitVec.smod 32).toNat).getLsbD i = _
  rw [s_l n hn, BitVec.getLsbD_shiftLeft]
  rcases Nat.lt_or_ge i n with h | h
  · simp [h, Nat.not_le.mpr h]
  · simp [hi, h, Nat.not_lt.mpr h]
theorem b_ushr (n : Nat) (hn : n < 32) (x : Int32) (i : Nat) : bt ((x.toUInt32 >>> ((nI n).toUInt32 &&& Int32.toUInt32 31)).toInt32) i = bt x (n + i) := by
  show (x.toUInt32 >>> ((nI n).toUInt32 &&& Int32.toUInt32 31)).toBitVec.getLsbD i = x.toUInt32.toBitVec.getLsbD (n + i)
  rw [UInt32.toBitVec_shiftRight]
  show (x.toUInt32.toBitVec >>> (((nI n).toUInt32 &&& Int32.toUInt32 31).toBitVec % 32).toNat).getLsbD i = _
  rw [s_u n hn, BitVec.getLsbD_ushiftRight]
theorem b_sshr (n : Nat) (hn : n < 32) (x : Int32) {i : Nat} (hi : i < 32) : bt (x >>> (nI n &&& 31)) i = if n + i < 32 then bt x (n + i) else bt x 31 := by
  unfold bt
  rw [Int32.toBitVec_shiftRight]
  show (x.toBitVec.sshiftRight ((nI n &&& 31).toBitVec.smod 32).toNat).getLsbD i = _
  rw [s_l n hn, BitVec.getLsbD_sshiftRight, BitVec.msb_eq_getLsbD_last]
  simp [hi]
/-! ===== words by a function on Int ===== -/
def wd (F : Int → Bool) : Int32 := Int32.ofBitVec ((BitVec.ofBoolListLE ((List.range 32).map (fun k : Nat => F (k : Int)))).setWidth 32)
theorem wd_bt (F : Int → Bool) {i : Nat} (h : i < 32) : bt (wd F) i = F (i : Int) := by
  unfold bt wd
  rw [Int32.toBitVec_ofBitVec, BitVec.getLsbD_setWidth, BitVec.getLsbD_ofBoolListLE, List.getD_eq_getElem?_getD, List.getElem?_map, List.getElem?_range h]
  simp [h]
theorem wd_of {x : Int32} {F : Int → Bool} (h : ∀ i : Nat, i < 32 → bt x i = F i) : x = wd F :=
  b_ext (fun i hi => (h i hi).trans (wd_bt F hi).symm)
theorem wd_c {F G : Int → Bool} (h : ∀ i : Int, 0 ≤ i → i < 32 → F i = G i) : wd F = wd G :=
  wd_of (fun i hi => by rw [wd_bt F hi]; exact h i (by omega) (by omega))
theorem wd_inj {F G : Int → Bool} (h : wd F = wd G) {i : Int} (h0 : 0 ≤ i) (h1 : i < 32) : F i = G i := by
  have e : (i.toNat : Int) = i := by omega
  have := wd_bt F (i := i.toNat) (by omega)
  rw [h, wd_bt G (by omega), e] at this
  exact this.symm
theorem wd_ex (x : Int32) : ∃ F, x = wd F ∧ ∀ i : Int, i < 0 ∨ 32 ≤ i → F i = false :=
  ⟨fun i => decide (0 ≤ i ∧ i < 32) && bt x i.toNat, wd_of (fun i hi => by rw [decide_eq_true (by omega)]; rfl), fun i h => by show (decide (0 ≤ i ∧ i < 32) && bt x i.toNat) = false; rw [decide_eq_false (by omega)]; rfl⟩
theorem wd_and (F G : Int → Bool) : wd F &&& wd G = wd (fun i => F i && G i) := wd_of (fun i hi => by rw [b_and, wd_bt F hi, wd_bt G hi])
theorem wd_or (F G : Int → Bool) : wd F ||| wd G = wd (fun i => F i || G i) := wd_of (fun i hi => by rw [b_or, wd_bt F hi, wd_bt G hi])
theorem wd_xor (F G : Int → Bool) : wd F ^^^ wd G = wd (fun i => F i ^^ G i) := wd_of (fun i hi => by rw [b_xor, wd_bt F hi, wd_bt G hi])
theorem wd_not (F : Int → Bool) : wd F ^^^ (-1) = wd (fun i => !F i) := wd_of (fun i hi => by rw [b_xor, wd_bt F hi, b_m1 i hi]; simp)
theorem wd_notJ (F : Int → Bool) : wd F ^^^ jI (-1) = wd (fun i => !F i) := wd_not F
theorem wd_0 : (0 : Int32) = wd (fun _ => false) := wd_of (fun i hi => b_0 i)
theorem wd_J0 : jI 0 = wd (fun _ => false) := wd_0
theorem wd_shl (F : Int → Bool) {k : Int} (h : 0 ≤ k ∧ k < 32) : wd F <<< (jI k &&& 31) = wd (fun i => decide (k ≤ i) && F (i - k)) := by
  obtain ⟨n, rfl⟩ := Int.eq_ofNat_of_zero_le h.1
  rw [← jI_nI]
  refine wd_of (fun i hi => ?_)
  rw [b_shl n (by omega) _ hi]
  by_cases e : n ≤ i
  · rw [wd_bt F (by omega), decide_eq_true e, decide_eq_true (show (n : Int) ≤ (i : Int) by omega)]
    simp only [Bool.true_and]
    congr 1
    omega
  · rw [decide_eq_false e, decide_eq_false (show ¬ (n : Int) ≤ (i : Int) by omega)]
    simp only [Bool.false_and]
theorem wd_shr (F : Int → Bool) {k : Int} (h : 0 ≤ k ∧ k < 32) : wd F >>> (jI k &&& 31) = wd (fun i => if i + k < 32 then F (i + k) else F 31) := by
  obtain ⟨n, rfl⟩ := Int.eq_ofNat_of_zero_le h.1
  rw [← jI_nI]
  refine wd_of (fun i hi => ?_)
  rw [b_sshr n (by omega) _ hi]
  by_cases e : n + i < 32
  · rw [if_pos e, if_pos (by omega), wd_bt F (by omega)]
    congr 1
    omega
  · rw [if_neg e, if_neg (by omega), wd_bt F (by omega)]
    rfl
theorem wd_ushr (F : Int → Bool) {k : Int} (h : 0 ≤ k ∧ k < 32) : ((wd F).toUInt32 >>> ((jI k).toUInt32 &&& Int32.toUInt32 31)).toInt32 = wd (fun i => decide (i + k < 32) && F (i + k)) := by
  obtain ⟨n, rfl⟩ := Int.eq_ofNat_of_zero_le h.1
  rw [← jI_nI]
  refine wd_of (fun i hi => ?_)
  rw [b_ushr n (by omega)]
  by_cases e : n + i < 32
  · rw [wd_bt F e, decide_eq_true (show (i : Int) + (n : Int) < 32 by omega), Bool.true_and]
    congr 1
    omega
  · rw [decide_eq_false (show ¬ (i : Int) + (n : Int) < 32 by omega), Bool.false_and]
    exact BitVec.getLsbD_of_ge _ _ (by omega)
theorem wd_one {k : Int} (h : 0 ≤ k ∧ k < 32) : jI 1 <<< (jI k &&& 31) = wd (fun i => decide (i = k)) := by
  have e1 : jI 1 = wd (fun i => decide (i = 0)) := wd_of (by decide +kernel)
  rw [e1, wd_shl _ h]
  refine wd_c (fun i h0 h1 => ?_)
  by_cases e : i = k
  · subst e; simp
  · by_cases e2 : k ≤ i
    · rw [decide_eq_true e2, decide_eq_false e, decide_eq_false (by omega)]; rfl
    · rw [decide_eq_false e2, decide_eq_false e]; rfl
theorem wd_J1 : jI 1 = wd (fun i => decide (i = 0)) := wd_of (by decide +kernel)
theorem wd_mA : (11184810 : Int32) = wd (fun i => decide (i % 2 = 1 ∧ i < 24)) := wd_of (by decide +kernel)
theorem wd_m5 : (22369621 : Int32) = wd (fun i => decide (i % 2 = 0 ∧ i < 25)) := wd_of (by decide +kernel)
theorem wd_mF : (33554431 : Int32) = wd (fun i => decide (i < 25)) := wd_of (by decide +kernel)
theorem wd_eq0 (F : Int → Bool) : (wd F = jI 0) ↔ ∀ i : Int, 0 ≤ i → i < 32 → F i = false := by
  rw [wd_J0]
  constructor
  · intro h i h0 h1; exact wd_inj h h0 h1
  · intro h; exact wd_c h
theorem wd_ne0 (F : Int → Bool) : (¬ wd F = jI 0) ↔ ∃ i : Int, 0 ≤ i ∧ i < 32 ∧ F i = true := by
  rw [wd_eq0]
  constructor
  · intro h
    apply Classical.byContradiction
    intro hn
    apply h
    intro i h0 h1
    cases e : F i with
    | false => rfl
    | true => exact absurd ⟨i, h0, h1, e⟩ hn
  · rintro ⟨i, h0, h1, h⟩ hn
    rw [hn i h0 h1] at h
    cases h
theorem wd_bit (F : Int → Bool) {k : Int} (h : 0 ≤ k ∧ k < 32) : ((wd F >>> (jI k &&& 31)) &&& jI 1) = b2 (F k) := by
  rw [wd_shr F h, wd_J1, wd_and]
  cases e : F k with
  | false =>
    show _ = (0 : Int32)
    rw [wd_0]
    refine wd_c (fun i h0 h1 => ?_)
    by_cases z : i = 0
    · subst z; rw [if_pos (by omega), Int.zero_add, e]; rfl
    · rw [decide_eq_false z, Bool.and_false]
  | true =>
    show _ = jI 1
    rw [wd_J1]
    refine wd_c (fun i h0 h1 => ?_)
    by_cases z : i = 0
    · subst z; rw [if_pos (by omega), Int.zero_add, e]; rfl
    · rw [decide_eq_false z, Bool.and_false]
theorem wd_ubit (F : Int → Bool) {k : Int} (h : 0 ≤ k ∧ k < 32) : (((wd F).toUInt32 >>> ((jI k).toUInt32 &&& Int32.toUInt32 31)).toInt32 &&& jI 1) = b2 (F k) := by
  rw [wd_ushr F h, wd_J1, wd_and]
  cases e : F k with
  | false =>
    show _ = (0 : Int32)
    rw [wd_0]
    refine wd_c (fun i h0 h1 => ?_)
    by_cases z : i = 0
    · subst z; rw [Int.zero_add, e, Bool.and_false]; rfl
    · rw [decide_eq_false z, Bool.and_false]
  | true =>
    show _ = jI 1
    rw [wd_J1]
    refine wd_c (fun i h0 h1 => ?_)
    by_cases z : i = 0
    · subst z; rw [Int.zero_add, e, decide_eq_true h.2]; rfl
    · rw [decide_eq_false z, Bool.and_false]
/-- the lowest bits of a number -/
theorem pk_tn {n : Nat} (h : n < 2 ^ 32) : (nI n).toBitVec.toNat = n := Nat.mod_eq_of_lt h
theorem pk_and (x : Int32) {m : Int32} (k : Nat) (hm : m.toBitVec.toNat = 2 ^ k - 1) : x &&& m = nI (x.toBitVec.toNat % 2 ^ k) := by
  apply Int32.toBitVec_inj.mp
  apply BitVec.eq_of_toNat_eq
  rw [Int32.toBitVec_and, BitVec.toNat_and, hm, Nat.and_two_pow_sub_one_eq_mod]
  show _ = (BitVec.ofNat 32 _).toNat
  rw [BitVec.toNat_ofNat]
  exact (Nat.mod_eq_of_lt (Nat.lt_of_le_of_lt (Nat.mod_le _ _) x.toBitVec.isLt)).symm
theorem jI_a1 {a : Int} (h : 0 ≤ a ∧ a < 2147483648) : jI a &&& jI 1 = jI (a % 2) := by
  obtain ⟨n, rfl⟩ := Int.eq_ofNat_of_zero_le h.1
  rw [← jI_nI, pk_and (m := jI 1) _ 1 (by decide), pk_tn (by omega), jI_nI]
  exact congrArg jI (by omega)
theorem jI_a3 {a : Int} (h : 0 ≤ a ∧ a < 2147483648) : jI a &&& jI 3 = jI (a % 4) := by
  obtain ⟨n, rfl⟩ := Int.eq_ofNat_of_zero_le h.1
  rw [← jI_nI, pk_and (m := jI 3) _ 2 (by decide), pk_tn (by omega), jI_nI]
  exact congrArg jI (by omega)
end
section
/-! ===== the content of layers ===== -/
def RX (L : Int → Int → Int → Bool) (rows : Nat → Int32) : Prop := ∀ l j : Int, 0 ≤ l → l < 6 → 0 ≤ j → j < 25 → rows (25 * l + j).toNat = wd (fun i => L l i j)
def RY (L : Int → Int → Int → Bool) (lys : Nat → Int32) : Prop := ∀ l i j : Int, 0 ≤ l → l < 6 → 0 ≤ i → i < 25 → 0 ≤ j → j < 25 → lys (625 * l + 25 * i + j).toNat = b2 (L l i j)
def RO (L : Int → Int → Int → Bool) : Prop := ∀ l i j : Int, ¬ (0 ≤ i ∧ i < 25 ∧ 0 ≤ j ∧ j < 25) → L l i j = false
/-- closed: with an atom all its faces -/
def Cl (A : Int → Int → Bool) : Prop := ∀ i j : Int, A i j = true → (i % 2 = 1 → A (i - 1) j = true ∧ A (i + 1) j = true) ∧ (j % 2 = 1 → A i (j - 1) = true ∧ A i (j + 1) = true)
theorem ry_n {L : Int → Int → Int → Bool} {lys : Nat → Int32} (h : RY L lys) {l n : Int} (hl : 0 ≤ l ∧ l < 6) (hn : 0 ≤ n ∧ n < 625) : lys (625 * l + n).toNat = b2 (L l (n / 25) (n % 25)) := by
  have := h l (n / 25) (n % 25) hl.1 hl.2 (by omega) (by omega) (by omega) (by omega)
  rw [← this]
  congr 2
  omega
theorem dc_T {p : Prop} [Decidable p] (h : p) : decide p = true := decide_eq_true h
theorem dc_F {p : Prop} [Decidable p] (h : ¬ p) : decide p = false := decide_eq_false h
theorem sg_l {L : Int → Int → Int → Bool} (hO : RO L) (l i j k : Int) : (decide (k ≤ i) && L l (i - k) j) = L l (i - k) j := by
  by_cases h : k ≤ i
  · rw [decide_eq_true h, Bool.true_and]
  · rw [hO l (i - k) j (by omega), Bool.and_false]
theorem sg_m {L : Int → Int → Int → Bool} (hO : RO L) {l i j : Int} (h : i % 2 = 1) : (L l i j && decide (i % 2 = 1 ∧ i < 24)) = L l i j := by
  by_cases h2 : i < 24
  · rw [decide_eq_true ⟨h, h2⟩, Bool.and_true]
  · rw [hO l i j (by omega), Bool.false_and]
def mx (op : Int) (a b : Bool) : Bool := if op = 0 then a || b else if op = 1 then a && b else if op = 2 then a && !b else a ^^ b
/-! ===== parts ===== -/
def o1 (b : Bool) : Int := if b then 1 else 0
theorem o1_b (b : Bool) : b2 b = jI (o1 b) := by cases b <;> rfl
theorem o1_r (b : Bool) : 0 ≤ o1 b ∧ o1 b ≤ 1 := by cases b <;> decide
def ca (A : Int → Int → Bool) (i j : Int) : Int :=
  if i % 2 = 1 then o1 (A i (j - 1)) + o1 (A i (j + 1))
  else if j % 2 = 1 then o1 (A (i - 1) j) + o1 (A (i + 1) j)
  else o1 (A (i - 1) (j - 1)) + o1 (A (i - 1) (j + 1)) + o1 (A (i + 1) (j - 1)) + o1 (A (i + 1) (j + 1))
def ea (A : Int → Int → Bool) (i j : Int) : Int := o1 (A (i - 1) j) + o1 (A (i + 1) j) + o1 (A i (j - 1)) + o1 (A i (j + 1))
def pt (A : Int → Int → Bool) (i j : Int) : Int :=
  if A i j = false then 2 else if i % 2 + j % 2 = 2 then 0 else if i % 2 + j % 2 = 1 then (if ca A i j = 1 then 1 else 0)
  else if ca A i j = 4 then 0 else if ca A i j ≤ 0 then ea A i j % 2 else 1
theorem pt_r (A : Int → Int → Bool) (i j : Int) : 0 ≤ pt A i j ∧ pt A i j ≤ 2 := by
  unfold pt
  repeat' split
  all_goals omega
theorem pt_2 {A : Int → Int → Bool} {i j : Int} (h : A i j = false) : pt A i j = 2 := if_pos h
theorem pt_lt {A : Int → Int → Bool} {i j : Int} (h : A i j = true) : pt A i j < 2 := by
  unfold pt
  rw [if_neg (by rw [h]; decide)]
  repeat' split
  all_goals omega
section
variable {c bd : Int32} {rows drawn passed work inner crn rfr rto par cel opn rst : Nat → Int32}
variable {post : Int32 → Prop}
theorem xx_lay {z : Int} (h : 0 ≤ z ∧ z < 6) : wpX_isLayer post (jI z) = post (jI 1) := by
  simp (disch := omega) only [wpX_isLayer, jl_0, jl_1, jl_2, jl_3, jl_4, jl_5, jl_6, jl_7, jl_8, jl_9, jl_12, jl_13, jl_16, jl_24, jl_25, jl_50, jl_168, jl_169, jl_624, jl_625, jl_1000, jI_add, jI_sub, jI_mul, jI_neg, jI_div, ie_mod, jI_leT, jI_leF, jI_ltT, jI_ltF, jI_eqT, jI_eqF, jI_cl, jI_inT, forall_eq, true_implies, false_implies, implies_true, not_true_eq_false, not_false_eq_true, true_and, and_true, b2_0, b2_z]
theorem xx_layF {z : Int} (h : -2147483648 ≤ z ∧ z < 2147483648 ∧ (z < 0 ∨ 6 ≤ z)) : wpX_isLayer post (jI z) = post (jI 0) := by
  by_cases h1 : z < 0
  · simp (disch := omega) only [wpX_isLayer, jl_0, jl_1, jl_2, jl_3, jl_4, jl_5, jl_6, jl_7, jl_8, jl_9, jl_12, jl_13, jl_16, jl_24, jl_25, jl_50, jl_168, jl_169, jl_624, jl_625, jl_1000, jI_add, jI_sub, jI_mul, jI_neg, jI_div, ie_mod, jI_leT, jI_leF, jI_ltT, jI_ltF, jI_eqT, jI_eqF, jI_cl, jI_inT, forall_eq, true_implies, false_implies, implies_true, not_true_eq_false, not_false_eq_true, true_and, and_true, b2_0, b2_z]
  · simp (disch := omega) only [wpX_isLayer, jl_0, jl_1, jl_2, jl_3, jl_4, jl_5, jl_6, jl_7, jl_8, jl_9, jl_12, jl_13, jl_16, jl_24, jl_25, jl_50, jl_168, jl_169, jl_624, jl_625, jl_1000, jI_add, jI_sub, jI_mul, jI_neg, jI_div, ie_mod, jI_leT, jI_leF, jI_ltT, jI_ltF, jI_eqT, jI_eqF, jI_cl, jI_inT, forall_eq, true_implies, false_implies, implies_true, not_true_eq_false, not_false_eq_true, true_and, and_true, b2_0, b2_z]
theorem xx_rng {x y : Int} (h : 0 ≤ x ∧ x < 13 ∧ 0 ≤ y ∧ y < 13) : wpX_inRange post (jI x) (jI y) = post (jI 1) := by
  simp (disch := omega) only [wpX_inRange, jl_0, jl_1, jl_2, jl_3, jl_4, jl_5, jl_6, jl_7, jl_8, jl_9, jl_12, jl_13, jl_16, jl_24, jl_25, jl_50, jl_168, jl_169, jl_624, jl_625, jl_1000, jI_add, jI_sub, jI_mul, jI_neg, jI_div, ie_mod, jI_leT, jI_leF, jI_ltT, jI_ltF, jI_eqT, jI_eqF, jI_cl, jI_inT, forall_eq, true_implies, false_implies, implies_true, not_true_eq_false, not_false_eq_true, true_and, and_true, b2_0, b2_z]
theorem xx_rngF {x y : Int} (h : -2147483648 ≤ x ∧ x < 2147483648 ∧ -2147483648 ≤ y ∧ y < 2147483648 ∧ (x < 0 ∨ 13 ≤ x ∨ y < 0 ∨ 13 ≤ y)) : wpX_inRange post (jI x) (jI y) = post (jI 0) := by
  by_cases h1 : x < 0
  · simp (disch := omega) only [wpX_inRange, jl_0, jl_1, jl_2, jl_3, jl_4, jl_5, jl_6, jl_7, jl_8, jl_9, jl_12, jl_13, jl_16, jl_24, jl_25, jl_50, jl_168, jl_169, jl_624, jl_625, jl_1000, jI_add, jI_sub, jI_mul, jI_neg, jI_div, ie_mod, jI_leT, jI_leF, jI_ltT, jI_ltF, jI_eqT, jI_eqF, jI_cl, jI_inT, forall_eq, true_implies, false_implies, implies_true, not_true_eq_false, not_false_eq_true, true_and, and_true, b2_0, b2_z]
  · by_cases h2 : 13 ≤ x
    · simp (disch := omega) only [wpX_inRange, jl_0, jl_1, jl_2, jl_3, jl_4, jl_5, jl_6, jl_7, jl_8, jl_9, jl_12, jl_13, jl_16, jl_24, jl_25, jl_50, jl_168, jl_169, jl_624, jl_625, jl_1000, jI_add, jI_sub, jI_mul, jI_neg, jI_div, ie_mod, jI_leT, jI_leF, jI_ltT, jI_ltF, jI_eqT, jI_eqF, jI_cl, jI_inT, forall_eq, true_implies, false_implies, implies_true, not_true_eq_false, not_false_eq_true, true_and, and_true, b2_0, b2_z]
    · by_cases h3 : y < 0
      · simp (disch := omega) only [wpX_inRange, jl_0, jl_1, jl_2, jl_3, jl_4, jl_5, jl_6, jl_7, jl_8, jl_9, jl_12, jl_13, jl_16, jl_24, jl_25, jl_50, jl_168, jl_169, jl_624, jl_625, jl_1000, jI_add, jI_sub, jI_mul, jI_neg, jI_div, ie_mod, jI_leT, jI_leF, jI_ltT, jI_ltF, jI_eqT, jI_eqF, jI_cl, jI_inT, forall_eq, true_implies, false_implies, implies_true, not_true_eq_false, not_false_eq_true, true_and, and_true, b2_0, b2_z]
      · simp (disch := omega) only [wpX_inRange, jl_0, jl_1, jl_2, jl_3, jl_4, jl_5, jl_6, jl_7, jl_8, jl_9, jl_12, jl_13, jl_16, jl_24, jl_25, jl_50, jl_168, jl_169, jl_624, jl_625, jl_1000, jI_add, jI_sub, jI_mul, jI_neg, jI_div, ie_mod, jI_leT, jI_leF, jI_ltT, jI_ltF, jI_eqT, jI_eqF, jI_cl, jI_inT, forall_eq, true_implies, false_implies, implies_true, not_true_eq_false, not_false_eq_true, true_and, and_true, b2_0, b2_z]
theorem xx_row {L : Int → Int → Int → Bool} (hR : RX L rows) (hO : RO L) {l j : Int} (h : 0 ≤ l ∧ l < 6 ∧ -1000 ≤ j ∧ j < 1000) : wpX_row post (c, bd, rows, drawn, passed, work, inner, crn, rfr, rto, par, cel, opn, rst) (jI l) (jI j) = post (wd (fun i => L l i j)) := by
  by_cases h1 : 0 ≤ j ∧ j ≤ 24
  · have e := hR l j h.1 h.2.1 h1.1 (by omega)
    simp (disch := omega) only [wpX_row, jl_0, jl_1, jl_2, jl_3, jl_4, jl_5, jl_6, jl_7, jl_8, jl_9, jl_12, jl_13, jl_16, jl_24, jl_25, jl_50, jl_168, jl_169, jl_624, jl_625, jl_1000, jI_add, jI_sub, jI_mul, jI_neg, jI_div, ie_mod, jI_leT, jI_leF, jI_ltT, jI_ltF, jI_eqT, jI_eqF, jI_cl, jI_inT, forall_eq, true_implies, false_implies, implies_true, not_true_eq_false, not_false_eq_true, true_and, and_true, b2_0, b2_z, e]
  · have e : wd (fun i => L l i j) = jI 0 := by rw [wd_J0]; exact wd_c (fun i _ _ => hO l i j (by omega))
    rw [e]
    by_cases h2 : j < 0
    · simp (disch := omega) only [wpX_row, jl_0, jl_1, jl_2, jl_3, jl_4, jl_5, jl_6, jl_7, jl_8, jl_9, jl_12, jl_13, jl_16, jl_24, jl_25, jl_50, jl_168, jl_169, jl_624, jl_625, jl_1000, jI_add, jI_sub, jI_mul, jI_neg, jI_div, ie_mod, jI_leT, jI_leF, jI_ltT, jI_ltF, jI_eqT, jI_eqF, jI_cl, jI_inT, forall_eq, true_implies, false_implies, implies_true, not_true_eq_false, not_false_eq_true, true_and, and_true, b2_0, b2_z]
    · simp (disch := omega) only [wpX_row, jl_0, jl_1, jl_2, jl_3, jl_4, jl_5, jl_6, jl_7, jl_8, jl_9, jl_12, jl_13, jl_16, jl_24, jl_25, jl_50, jl_168, jl_169, jl_624, jl_625, jl_1000, jI_add, jI_sub, jI_mul, jI_neg, jI_div, ie_mod, jI_leT, jI_leF, jI_ltT, jI_ltF, jI_eqT, jI_eqF, jI_cl, jI_inT, forall_eq, true_implies, false_implies, implies_true, not_true_eq_false, not_false_eq_true, true_and, and_true, b2_0, b2_z]
theorem in_b1 : ∀ a l r u d : Bool, (a && (!(l ^^ r))) = decide ((if a = false then (2 : Int) else if o1 l + o1 r = 1 then 1 else 0) = 0) := by decide
theorem in_b2 : ∀ a p q r s e f g h : Bool, (a && ((p && q && r && s) || ((!(p || q || r || s)) && (!(e ^^ f ^^ g ^^ h))))) = decide ((if a = false then (2 : Int) else if o1 p + o1 q + o1 r + o1 s = 4 then 0 else if o1 p + o1 q + o1 r + o1 s ≤ 0 then (o1 e + o1 f + o1 g + o1 h) % 2 else 1) = 0) := by decide +kernel
theorem xx_int {L : Int → Int → Int → Bool} (hR : RX L rows) (hO : RO L) {l j : Int} (h : 0 ≤ l ∧ l < 6 ∧ 0 ≤ j ∧ j < 25) : wpX_interior post (c, bd, rows, drawn, passed, work, inner, crn, rfr, rto, par, cel, opn, rst) (jI l) (jI j) = post (wd (fun i => decide (pt (L l) i j = 0))) := by
  by_cases h1 : j % 2 = 1
  · simp (disch := omega) only [wpX_interior, jl_0, jl_1, jl_2, jl_3, jl_4, jl_5, jl_6, jl_7, jl_8, jl_9, jl_12, jl_13, jl_16, jl_24, jl_25, jl_50, jl_168, jl_169, jl_624, jl_625, jl_1000, jI_add, jI_sub, jI_mul, jI_neg, jI_div, ie_mod, jI_leT, jI_leF, jI_ltT, jI_ltF, jI_eqT, jI_eqF, jI_cl, jI_inT, forall_eq, true_implies, false_implies, implies_true, not_true_eq_false, not_false_eq_true, true_and, and_true, b2_0, b2_z, xx_row hR hO, jI_a1, wd_and, wd_or, wd_xor, wd_notJ, wd_shl, wd_shr, wd_ushr, wd_one, wd_mA, wd_m5, wd_mF]
    congr 1
    refine wd_c (fun i h0 h32 => ?_)
    by_cases hi : i < 25
    · by_cases hp : i % 2 = 1
      · simp (disch := omega) only [pt, dc_T, dc_F, if_pos, if_neg]
        cases L l i j <;> simp
      · simp (disch := omega) only [pt, dc_T, dc_F, if_pos, if_neg, Bool.and_true, Bool.and_false, Bool.true_and, Bool.false_and, Bool.or_false, Bool.false_or, ca, sg_l hO, sg_m hO]
        exact in_b1 _ _ _ false false
    · rw [pt_2 (hO l i j (by omega))]
      simp only [hO l i j (by omega)]
      simp
  · simp (disch := omega) only [wpX_interior, jl_0, jl_1, jl_2, jl_3, jl_4, jl_5, jl_6, jl_7, jl_8, jl_9, jl_12, jl_13, jl_16, jl_24, jl_25, jl_50, jl_168, jl_169, jl_624, jl_625, jl_1000, jI_add, jI_sub, jI_mul, jI_neg, jI_div, ie_mod, jI_leT, jI_leF, jI_ltT, jI_ltF, jI_eqT, jI_eqF, jI_cl, jI_inT, forall_eq, true_implies, false_implies, implies_true, not_true_eq_false, not_false_eq_true, true_and, and_true, b2_0, b2_z, xx_row hR hO, jI_a1, wd_and, wd_or, wd_xor, wd_notJ, wd_shl, wd_shr, wd_ushr, wd_one, wd_mA, wd_m5, wd_mF]
    congr 1
    refine wd_c (fun i h0 h32 => ?_)
    by_cases hi : i < 25
    · by_cases hp : i % 2 = 1
      · simp (disch := omega) only [pt, dc_T, dc_F, if_pos, if_neg, Bool.and_true, Bool.and_false, Bool.true_and, Bool.false_and, Bool.or_false, Bool.false_or, ca]
        exact in_b1 _ _ _ false false
      · simp (disch := omega) only [pt, dc_T, dc_F, if_pos, if_neg, Bool.and_true, Bool.and_false, Bool.true_and, Bool.false_and, Bool.or_false, Bool.false_or, ca, ea, sg_l hO, sg_m hO]
        have := in_b2 (L l i j) (L l (i - 1) (j - 1)) (L l (i - 1) (j + 1)) (L l (i + 1) (j - 1)) (L l (i + 1) (j + 1)) (L l (i - 1) j) (L l (i + 1) j) (L l i (j - 1)) (L l i (j + 1))
        rw [← this]
        generalize L l i j = a, L l (i - 1) (j - 1) = p, L l (i - 1) (j + 1) = q, L l (i + 1) (j - 1) = r, L l (i + 1) (j + 1) = s, L l (i - 1) j = e, L l (i + 1) j = f, L l i (j - 1) = g, L l i (j + 1) = h
        revert a p q r s e f g h
        decide +kernel
    · rw [pt_2 (hO l i j (by omega))]
      simp only [hO l i j (by omega)]
      simp
end
end
section
section
variable {cy : Int32} {lys fil mad st px py lab : Nat → Int32}
variable {post : Int32 → Prop}
theorem yy_lay {z : Int} (h : 0 ≤ z ∧ z < 6) : wpY_layer post (cy, lys, fil, mad, st, px, py, lab) (jI z) = post (jI 1) := by
  simp (disch := omega) only [wpY_layer, jl_0, jl_1, jl_2, jl_3, jl_4, jl_5, jl_6, jl_7, jl_8, jl_9, jl_12, jl_13, jl_16, jl_24, jl_25, jl_50, jl_168, jl_169, jl_624, jl_625, jl_1000, jI_add, jI_sub, jI_mul, jI_neg, jI_div, ie_mod, jI_leT, jI_leF, jI_ltT, jI_ltF, jI_eqT, jI_eqF, jI_cl, jI_inT, forall_eq, true_implies, false_implies, implies_true, not_true_eq_false, not_false_eq_true, true_and, and_true, b2_0, b2_z]
theorem yy_layF {z : Int} (h : -2147483648 ≤ z ∧ z < 2147483648 ∧ (z < 0 ∨ 6 ≤ z)) : wpY_layer post (cy, lys, fil, mad, st, px, py, lab) (jI z) = post (jI 0) := by
  by_cases h1 : z < 0
  · simp (disch := omega) only [wpY_layer, jl_0, jl_1, jl_2, jl_3, jl_4, jl_5, jl_6, jl_7, jl_8, jl_9, jl_12, jl_13, jl_16, jl_24, jl_25, jl_50, jl_168, jl_169, jl_624, jl_625, jl_1000, jI_add, jI_sub, jI_mul, jI_neg, jI_div, ie_mod, jI_leT, jI_leF, jI_ltT, jI_ltF, jI_eqT, jI_eqF, jI_cl, jI_inT, forall_eq, true_implies, false_implies, implies_true, not_true_eq_false, not_false_eq_true, true_and, and_true, b2_0, b2_z]
  · simp (disch := omega) only [wpY_layer, jl_0, jl_1, jl_2, jl_3, jl_4, jl_5, jl_6, jl_7, jl_8, jl_9, jl_12, jl_13, jl_16, jl_24, jl_25, jl_50, jl_168, jl_169, jl_624, jl_625, jl_1000, jI_add, jI_sub, jI_mul, jI_neg, jI_div, ie_mod, jI_leT, jI_leF, jI_ltT, jI_ltF, jI_eqT, jI_eqF, jI_cl, jI_inT, forall_eq, true_implies, false_implies, implies_true, not_true_eq_false, not_false_eq_true, true_and, and_true, b2_0, b2_z]
theorem yy_rng {x y : Int} (h : 0 ≤ x ∧ x < 13 ∧ 0 ≤ y ∧ y < 13) : wpY_coordinates post (cy, lys, fil, mad, st, px, py, lab) (jI x) (jI y) = post (jI 1) := by
  simp (disch := omega) only [wpY_coordinates, jl_0, jl_1, jl_2, jl_3, jl_4, jl_5, jl_6, jl_7, jl_8, jl_9, jl_12, jl_13, jl_16, jl_24, jl_25, jl_50, jl_168, jl_169, jl_624, jl_625, jl_1000, jI_add, jI_sub, jI_mul, jI_neg, jI_div, ie_mod, jI_leT, jI_leF, jI_ltT, jI_ltF, jI_eqT, jI_eqF, jI_cl, jI_inT, forall_eq, true_implies, false_implies, implies_true, not_true_eq_false, not_false_eq_true, true_and, and_true, b2_0, b2_z]
theorem yy_rngF {x y : Int} (h : -2147483648 ≤ x ∧ x < 2147483648 ∧ -2147483648 ≤ y ∧ y < 2147483648 ∧ (x < 0 ∨ 13 ≤ x ∨ y < 0 ∨ 13 ≤ y)) : wpY_coordinates post (cy, lys, fil, mad, st, px, py, lab) (jI x) (jI y) = post (jI 0) := by
  by_cases h1 : x < 0
  · simp (disch := omega) only [wpY_coordinates, jl_0, jl_1, jl_2, jl_3, jl_4, jl_5, jl_6, jl_7, jl_8, jl_9, jl_12, jl_13, jl_16, jl_24, jl_25, jl_50, jl_168, jl_169, jl_624, jl_625, jl_1000, jI_add, jI_sub, jI_mul, jI_neg, jI_div, ie_mod, jI_leT, jI_leF, jI_ltT, jI_ltF, jI_eqT, jI_eqF, jI_cl, jI_inT, forall_eq, true_implies, false_implies, implies_true, not_true_eq_false, not_false_eq_true, true_and, and_true, b2_0, b2_z]
  · by_cases h2 : 13 ≤ x
    · simp (disch := omega) only [wpY_coordinates, jl_0, jl_1, jl_2, jl_3, jl_4, jl_5, jl_6, jl_7, jl_8, jl_9, jl_12, jl_13, jl_16, jl_24, jl_25, jl_50, jl_168, jl_169, jl_624, jl_625, jl_1000, jI_add, jI_sub, jI_mul, jI_neg, jI_div, ie_mod, jI_leT, jI_leF, jI_ltT, jI_ltF, jI_eqT, jI_eqF, jI_cl, jI_inT, forall_eq, true_implies, false_implies, implies_true, not_true_eq_false, not_false_eq_true, true_and, and_true, b2_0, b2_z]
    · by_cases h3 : y < 0
      · simp (disch := omega) only [wpY_coordinates, jl_0, jl_1, jl_2, jl_3, jl_4, jl_5, jl_6, jl_7, jl_8, jl_9, jl_12, jl_13, jl_16, jl_24, jl_25, jl_50, jl_168, jl_169, jl_624, jl_625, jl_1000, jI_add, jI_sub, jI_mul, jI_neg, jI_div, ie_mod, jI_leT, jI_leF, jI_ltT, jI_ltF, jI_eqT, jI_eqF, jI_cl, jI_inT, forall_eq, true_implies, false_implies, implies_true, not_true_eq_false, not_false_eq_true, true_and, and_true, b2_0, b2_z]
      · simp (disch := omega) only [wpY_coordinates, jl_0, jl_1, jl_2, jl_3, jl_4, jl_5, jl_6, jl_7, jl_8, jl_9, jl_12, jl_13, jl_16, jl_24, jl_25, jl_50, jl_168, jl_169, jl_624, jl_625, jl_1000, jI_add, jI_sub, jI_mul, jI_neg, jI_div, ie_mod, jI_leT, jI_leF, jI_ltT, jI_ltF, jI_eqT, jI_eqF, jI_cl, jI_inT, forall_eq, true_implies, false_implies, implies_true, not_true_eq_false, not_false_eq_true, true_and, and_true, b2_0, b2_z]
theorem yy_at {x y : Int} (h : 0 ≤ x ∧ x < 25 ∧ 0 ≤ y ∧ y < 25) : wpY_atom post (cy, lys, fil, mad, st, px, py, lab) (jI x) (jI y) = post (jI 1) := by
  simp (disch := omega) only [wpY_atom, jl_0, jl_1, jl_2, jl_3, jl_4, jl_5, jl_6, jl_7, jl_8, jl_9, jl_12, jl_13, jl_16, jl_24, jl_25, jl_50, jl_168, jl_169, jl_624, jl_625, jl_1000, jI_add, jI_sub, jI_mul, jI_neg, jI_div, ie_mod, jI_leT, jI_leF, jI_ltT, jI_ltF, jI_eqT, jI_eqF, jI_cl, jI_inT, forall_eq, true_implies, false_implies, implies_true, not_true_eq_false, not_false_eq_true, true_and, and_true, b2_0, b2_z]
theorem yy_atF {x y : Int} (h : -2147483648 ≤ x ∧ x < 2147483648 ∧ -2147483648 ≤ y ∧ y < 2147483648 ∧ (x < 0 ∨ 25 ≤ x ∨ y < 0 ∨ 25 ≤ y)) : wpY_atom post (cy, lys, fil, mad, st, px, py, lab) (jI x) (jI y) = post (jI 0) := by
  by_cases h1 : x < 0
  · simp (disch := omega) only [wpY_atom, jl_0, jl_1, jl_2, jl_3, jl_4, jl_5, jl_6, jl_7, jl_8, jl_9, jl_12, jl_13, jl_16, jl_24, jl_25, jl_50, jl_168, jl_169, jl_624, jl_625, jl_1000, jI_add, jI_sub, jI_mul, jI_neg, jI_div, ie_mod, jI_leT, jI_leF, jI_ltT, jI_ltF, jI_eqT, jI_eqF, jI_cl, jI_inT, forall_eq, true_implies, false_implies, implies_true, not_true_eq_false, not_false_eq_true, true_and, and_true, b2_0, b2_z]
  · by_cases h2 : 25 ≤ x
    · simp (disch := omega) only [wpY_atom, jl_0, jl_1, jl_2, jl_3, jl_4, jl_5, jl_6, jl_7, jl_8, jl_9, jl_12, jl_13, jl_16, jl_24, jl_25, jl_50, jl_168, jl_169, jl_624, jl_625, jl_1000, jI_add, jI_sub, jI_mul, jI_neg, jI_div, ie_mod, jI_leT, jI_leF, jI_ltT, jI_ltF, jI_eqT, jI_eqF, jI_cl, jI_inT, forall_eq, true_implies, false_implies, implies_true, not_true_eq_false, not_false_eq_true, true_and, and_true, b2_0, b2_z]
    · by_cases h3 : y < 0
      · simp (disch := omega) only [wpY_atom, jl_0, jl_1, jl_2, jl_3, jl_4, jl_5, jl_6, jl_7, jl_8, jl_9, jl_12, jl_13, jl_16, jl_24, jl_25, jl_50, jl_168, jl_169, jl_624, jl_625, jl_1000, jI_add, jI_sub, jI_mul, jI_neg, jI_div, ie_mod, jI_leT, jI_leF, jI_ltT, jI_ltF, jI_eqT, jI_eqF, jI_cl, jI_inT, forall_eq, true_implies, false_implies, implies_true, not_true_eq_false, not_false_eq_true, true_and, and_true, b2_0, b2_z]
      · simp (disch := omega) only [wpY_atom, jl_0, jl_1, jl_2, jl_3, jl_4, jl_5, jl_6, jl_7, jl_8, jl_9, jl_12, jl_13, jl_16, jl_24, jl_25, jl_50, jl_168, jl_169, jl_624, jl_625, jl_1000, jI_add, jI_sub, jI_mul, jI_neg, jI_div, ie_mod, jI_leT, jI_leF, jI_ltT, jI_ltF, jI_eqT, jI_eqF, jI_cl, jI_inT, forall_eq, true_implies, false_implies, implies_true, not_true_eq_false, not_false_eq_true, true_and, and_true, b2_0, b2_z]
theorem yy_atom {x y : Int} (h : -1000 ≤ x ∧ x < 1000 ∧ -1000 ≤ y ∧ y < 1000) : wpY_atom post (cy, lys, fil, mad, st, px, py, lab) (jI x) (jI y) = post (b2 (decide (0 ≤ x ∧ x < 25 ∧ 0 ≤ y ∧ y < 25))) := by
  by_cases h1 : 0 ≤ x ∧ x < 25 ∧ 0 ≤ y ∧ y < 25
  · rw [yy_at h1, decide_eq_true h1]; rfl
  · rw [yy_atF (by omega), decide_eq_false h1]; rfl
theorem yy_in {L : Int → Int → Int → Bool} (hY : RY L lys) (hO : RO L) {l i j : Int} (h : 0 ≤ l ∧ l < 6 ∧ -1000 ≤ i ∧ i < 1000 ∧ -1000 ≤ j ∧ j < 1000) : wpY_in post (cy, lys, fil, mad, st, px, py, lab) (jI l) (jI i) (jI j) = post (b2 (L l i j)) := by
  by_cases h1 : 0 ≤ i ∧ i < 25 ∧ 0 ≤ j ∧ j < 25
  · have e := hY l i j h.1 h.2.1 h1.1 h1.2.1 h1.2.2.1 h1.2.2.2
    simp (disch := omega) only [wpY_in, jl_0, jl_1, jl_2, jl_3, jl_4, jl_5, jl_6, jl_7, jl_8, jl_9, jl_12, jl_13, jl_16, jl_24, jl_25, jl_50, jl_168, jl_169, jl_624, jl_625, jl_1000, jI_add, jI_sub, jI_mul, jI_neg, jI_div, ie_mod, jI_leT, jI_leF, jI_ltT, jI_ltF, jI_eqT, jI_eqF, jI_cl, jI_inT, forall_eq, true_implies, false_implies, implies_true, not_true_eq_false, not_false_eq_true, true_and, and_true, b2_0, b2_z, yy_at, e]
    cases L l i j
    · simp only [true_implies, not_true_eq_false, false_implies, and_true]; rfl
    · simp only [reduceCtorEq, false_implies, not_false_eq_true, true_implies, true_and]; rfl
  · simp (disch := omega) only [wpY_in, jl_0, jl_1, jl_2, jl_3, jl_4, jl_5, jl_6, jl_7, jl_8, jl_9, jl_12, jl_13, jl_16, jl_24, jl_25, jl_50, jl_168, jl_169, jl_624, jl_625, jl_1000, jI_add, jI_sub, jI_mul, jI_neg, jI_div, ie_mod, jI_leT, jI_leF, jI_ltT, jI_ltF, jI_eqT, jI_eqF, jI_cl, jI_inT, forall_eq, true_implies, false_implies, implies_true, not_true_eq_false, not_false_eq_true, true_and, and_true, b2_0, b2_z, yy_atF, hO l i j h1]
    rfl
theorem yy_one {L : Int → Int → Int → Bool} (hY : RY L lys) (hO : RO L) {l i j : Int} (h : 0 ≤ l ∧ l < 6 ∧ -1000 ≤ i ∧ i < 1000 ∧ -1000 ≤ j ∧ j < 1000) : wpY_one post (cy, lys, fil, mad, st, px, py, lab) (jI l) (jI i) (jI j) = post (jI (o1 (L l i j))) := by
  simp (disch := omega) only [wpY_one, yy_in hY hO, jl_0, jl_1, jl_2, jl_3, jl_4, jl_5, jl_6, jl_7, jl_8, jl_9, jl_12, jl_13, jl_16, jl_24, jl_25, jl_50, jl_168, jl_169, jl_624, jl_625, jl_1000, jI_add, jI_sub, jI_mul, jI_neg, jI_div, ie_mod, jI_leT, jI_leF, jI_ltT, jI_ltF, jI_eqT, jI_eqF, jI_cl, jI_inT, forall_eq, true_implies, false_implies, implies_true, not_true_eq_false, not_false_eq_true, true_and, and_true, b2_0, b2_z]
  cases L l i j
  · simp only [true_implies, not_true_eq_false, false_implies, and_true]; rfl
  · simp only [reduceCtorEq, false_implies, not_false_eq_true, true_implies, true_and]; rfl
theorem yy_ca {L : Int → Int → Int → Bool} (hY : RY L lys) (hO : RO L) {l i j : Int} (h : 0 ≤ l ∧ l < 6 ∧ 0 ≤ i ∧ i < 25 ∧ 0 ≤ j ∧ j < 25) : wpY_cellsAround post (cy, lys, fil, mad, st, px, py, lab) (jI l) (jI i) (jI j) = post (jI (ca (L l) i j)) := by
  by_cases h1 : i % 2 = 1
  · simp (disch := omega) only [wpY_cellsAround, yy_one hY hO, jl_0, jl_1, jl_2, jl_3, jl_4, jl_5, jl_6, jl_7, jl_8, jl_9, jl_12, jl_13, jl_16, jl_24, jl_25, jl_50, jl_168, jl_169, jl_624, jl_625, jl_1000, jI_add, jI_sub, jI_mul, jI_neg, jI_div, ie_mod, jI_leT, jI_leF, jI_ltT, jI_ltF, jI_eqT, jI_eqF, jI_cl, jI_inT, forall_eq, true_implies, false_implies, implies_true, not_true_eq_false, not_false_eq_true, true_and, and_true, b2_0, b2_z, ca, if_pos, if_neg]
  · by_cases h2 : j % 2 = 1
    · simp (disch := omega) only [wpY_cellsAround, yy_one hY hO, jl_0, jl_1, jl_2, jl_3, jl_4, jl_5, jl_6, jl_7, jl_8, jl_9, jl_12, jl_13, jl_16, jl_24, jl_25, jl_50, jl_168, jl_169, jl_624, jl_625, jl_1000, jI_add, jI_sub, jI_mul, jI_neg, jI_div, ie_mod, jI_leT, jI_leF, jI_ltT, jI_ltF, jI_eqT, jI_eqF, jI_cl, jI_inT, forall_eq, true_implies, false_implies, implies_true, not_true_eq_false, not_false_eq_true, true_and, and_true, b2_0, b2_z, ca, if_pos, if_neg]
    · simp (disch := omega) only [wpY_cellsAround, yy_one hY hO, jl_0, jl_1, jl_2, jl_3, jl_4, jl_5, jl_6, jl_7, jl_8, jl_9, jl_12, jl_13, jl_16, jl_24, jl_25, jl_50, jl_168, jl_169, jl_624, jl_625, jl_1000, jI_add, jI_sub, jI_mul, jI_neg, jI_div, ie_mod, jI_leT, jI_leF, jI_ltT, jI_ltF, jI_eqT, jI_eqF, jI_cl, jI_inT, forall_eq, true_implies, false_implies, implies_true, not_true_eq_false, not_false_eq_true, true_and, and_true, b2_0, b2_z, ca, if_pos, if_neg]
theorem yy_ea {L : Int → Int → Int → Bool} (hY : RY L lys) (hO : RO L) {l i j : Int} (h : 0 ≤ l ∧ l < 6 ∧ 0 ≤ i ∧ i < 25 ∧ 0 ≤ j ∧ j < 25) : wpY_edgesAt post (cy, lys, fil, mad, st, px, py, lab) (jI l) (jI i) (jI j) = post (jI (ea (L l) i j)) := by
  simp (disch := omega) only [wpY_edgesAt, yy_one hY hO, jl_0, jl_1, jl_2, jl_3, jl_4, jl_5, jl_6, jl_7, jl_8, jl_9, jl_12, jl_13, jl_16, jl_24, jl_25, jl_50, jl_168, jl_169, jl_624, jl_625, jl_1000, jI_add, jI_sub, jI_mul, jI_neg, jI_div, ie_mod, jI_leT, jI_leF, jI_ltT, jI_ltF, jI_eqT, jI_eqF, jI_cl, jI_inT, forall_eq, true_implies, false_implies, implies_true, not_true_eq_false, not_false_eq_true, true_and, and_true, b2_0, b2_z, ea]
theorem ca_r (A : Int → Int → Bool) (i j : Int) : 0 ≤ ca A i j ∧ ca A i j ≤ 4 := by
  have h := fun a b => o1_r (A a b)
  unfold ca
  have h1 := h i (j - 1)
  have h2 := h i (j + 1)
  have h3 := h (i - 1) j
  have h4 := h (i + 1) j
  have h5 := h (i - 1) (j - 1)
  have h6 := h (i - 1) (j + 1)
  have h7 := h (i + 1) (j - 1)
  have h8 := h (i + 1) (j + 1)
  clear h
  repeat' split
  all_goals omega
theorem ea_r (A : Int → Int → Bool) (i j : Int) : 0 ≤ ea A i j ∧ ea A i j ≤ 4 := by
  unfold ea
  have h1 := o1_r (A i (j - 1))
  have h2 := o1_r (A i (j + 1))
  have h3 := o1_r (A (i - 1) j)
  have h4 := o1_r (A (i + 1) j)
  omega
theorem yy_pt {L : Int → Int → Int → Bool} (hY : RY L lys) (hO : RO L) {l i j : Int} (h : 0 ≤ l ∧ l < 6 ∧ 0 ≤ i ∧ i < 25 ∧ 0 ≤ j ∧ j < 25) : wpY_partOf post (cy, lys, fil, mad, st, px, py, lab) (jI l) (jI i) (jI j) = post (jI (pt (L l) i j)) := by
  have hc := ca_r (L l) i j
  have he := ea_r (L l) i j
  cases hA : L l i j with
  | false =>
    simp (disch := omega) only [wpY_partOf, yy_in hY hO, hA, b2_F, jl_0, jl_1, jl_2, jl_3, jl_4, jl_5, jl_6, jl_7, jl_8, jl_9, jl_12, jl_13, jl_16, jl_24, jl_25, jl_50, jl_168, jl_169, jl_624, jl_625, jl_1000, jI_add, jI_sub, jI_mul, jI_neg, jI_div, ie_mod, jI_leT, jI_leF, jI_ltT, jI_ltF, jI_eqT, jI_eqF, jI_cl, jI_inT, forall_eq, true_implies, false_implies, implies_true, not_true_eq_false, not_false_eq_true, true_and, and_true, b2_0, b2_z, pt, if_true]
  | true =>
    by_cases h2 : i % 2 + j % 2 = 2
    · simp (disch := omega) only [wpY_partOf, yy_in hY hO, hA, b2_T, jl_0, jl_1, jl_2, jl_3, jl_4, jl_5, jl_6, jl_7, jl_8, jl_9, jl_12, jl_13, jl_16, jl_24, jl_25, jl_50, jl_168, jl_169, jl_624, jl_625, jl_1000, jI_add, jI_sub, jI_mul, jI_neg, jI_div, ie_mod, jI_leT, jI_leF, jI_ltT, jI_ltF, jI_eqT, jI_eqF, jI_cl, jI_inT, forall_eq, true_implies, false_implies, implies_true, not_true_eq_false, not_false_eq_true, true_and, and_true, b2_0, b2_z, pt, if_pos, if_neg, if_false, reduceCtorEq]
    · by_cases h1 : i % 2 + j % 2 = 1
      · by_cases hc1 : ca (L l) i j = 1
        · simp (disch := omega) only [wpY_partOf, yy_in hY hO, yy_ca hY hO, hA, b2_T, jl_0, jl_1, jl_2, jl_3, jl_4, jl_5, jl_6, jl_7, jl_8, jl_9, jl_12, jl_13, jl_16, jl_24, jl_25, jl_50, jl_168, jl_169, jl_624, jl_625, jl_1000, jI_add, jI_sub, jI_mul, jI_neg, jI_div, ie_mod, jI_leT, jI_leF, jI_ltT, jI_ltF, jI_eqT, jI_eqF, jI_cl, jI_inT, forall_eq, true_implies, false_implies, implies_true, not_true_eq_false, not_false_eq_true, true_and, and_true, b2_0, b2_z, pt, if_pos, if_neg, if_false, reduceCtorEq]
        · simp (disch := omega) only [wpY_partOf, yy_in hY hO, yy_ca hY hO, hA, b2_T, jl_0, jl_1, jl_2, jl_3, jl_4, jl_5, jl_6, jl_7, jl_8, jl_9, jl_12, jl_13, jl_16, jl_24, jl_25, jl_50, jl_168, jl_169, jl_624, jl_625, jl_1000, jI_add, jI_sub, jI_mul, jI_neg, jI_div, ie_mod, jI_leT, jI_leF, jI_ltT, jI_ltF, jI_eqT, jI_eqF, jI_cl, jI_inT, forall_eq, true_implies, false_implies, implies_true, not_true_eq_false, not_false_eq_true, true_and, and_true, b2_0, b2_z, pt, if_pos, if_neg, if_false, reduceCtorEq]
      · by_cases hc1 : ca (L l) i j = 4
        · simp (disch := omega) only [wpY_partOf, yy_in hY hO, yy_ca hY hO, hA, b2_T, jl_0, jl_1, jl_2, jl_3, jl_4, jl_5, jl_6, jl_7, jl_8, jl_9, jl_12, jl_13, jl_16, jl_24, jl_25, jl_50, jl_168, jl_169, jl_624, jl_625, jl_1000, jI_add, jI_sub, jI_mul, jI_neg, jI_div, ie_mod, jI_leT, jI_leF, jI_ltT, jI_ltF, jI_eqT, jI_eqF, jI_cl, jI_inT, forall_eq, true_implies, false_implies, implies_true, not_true_eq_false, not_false_eq_true, true_and, and_true, b2_0, b2_z, pt, if_pos, if_neg, if_false, reduceCtorEq]
        · by_cases hc0 : ca (L l) i j ≤ 0
          · simp (disch := omega) only [wpY_partOf, yy_in hY hO, yy_ca hY hO, yy_ea hY hO, hA, b2_T, jl_0, jl_1, jl_2, jl_3, jl_4, jl_5, jl_6, jl_7, jl_8, jl_9, jl_12, jl_13, jl_16, jl_24, jl_25, jl_50, jl_168, jl_169, jl_624, jl_625, jl_1000, jI_add, jI_sub, jI_mul, jI_neg, jI_div, ie_mod, jI_leT, jI_leF, jI_ltT, jI_ltF, jI_eqT, jI_eqF, jI_cl, jI_inT, forall_eq, true_implies, false_implies, implies_true, not_true_eq_false, not_false_eq_true, true_and, and_true, b2_0, b2_z, pt, if_pos, if_neg, if_false, reduceCtorEq]
          · simp (disch := omega) only [wpY_partOf, yy_in hY hO, yy_ca hY hO, hA, b2_T, jl_0, jl_1, jl_2, jl_3, jl_4, jl_5, jl_6, jl_7, jl_8, jl_9, jl_12, jl_13, jl_16, jl_24, jl_25, jl_50, jl_168, jl_169, jl_624, jl_625, jl_1000, jI_add, jI_sub, jI_mul, jI_neg, jI_div, ie_mod, jI_leT, jI_leF, jI_ltT, jI_ltF, jI_eqT, jI_eqF, jI_cl, jI_inT, forall_eq, true_implies, false_implies, implies_true, not_true_eq_false, not_false_eq_true, true_and, and_true, b2_0, b2_z, pt, if_pos, if_neg, if_false, reduceCtorEq]
theorem yy_comb {op : Int} {a b : Bool} (h : 0 ≤ op ∧ op ≤ 3) : wpY_combined post (cy, lys, fil, mad, st, px, py, lab) (jI op) (b2 a) (b2 b) = post (b2 (mx op a b)) := by
  by_cases h0 : op = 0
  · subst h0
    cases a <;> cases b <;> simp (disch := omega) only [wpY_combined, jl_0, jl_1, jl_2, jl_3, jl_4, jl_5, jl_6, jl_7, jl_8, jl_9, jl_12, jl_13, jl_16, jl_24, jl_25, jl_50, jl_168, jl_169, jl_624, jl_625, jl_1000, jI_add, jI_sub, jI_mul, jI_neg, jI_div, ie_mod, jI_leT, jI_leF, jI_ltT, jI_ltF, jI_eqT, jI_eqF, jI_cl, jI_inT, forall_eq, true_implies, false_implies, implies_true, not_true_eq_false, not_false_eq_true, true_and, and_true, b2_0, b2_z, b2_T, b2_F] <;> rfl
  · by_cases h1 : op = 1
    · subst h1
      cases a <;> cases b <;> simp (disch := omega) only [wpY_combined, jl_0, jl_1, jl_2, jl_3, jl_4, jl_5, jl_6, jl_7, jl_8, jl_9, jl_12, jl_13, jl_16, jl_24, jl_25, jl_50, jl_168, jl_169, jl_624, jl_625, jl_1000, jI_add, jI_sub, jI_mul, jI_neg, jI_div, ie_mod, jI_leT, jI_leF, jI_ltT, jI_ltF, jI_eqT, jI_eqF, jI_cl, jI_inT, forall_eq, true_implies, false_implies, implies_true, not_true_eq_false, not_false_eq_true, true_and, and_true, b2_0, b2_z, b2_T, b2_F, mx, if_pos, if_neg] <;> rfl
    · by_cases h2 : op = 2
      · subst h2
        cases a <;> cases b <;> simp (disch := omega) only [wpY_combined, jl_0, jl_1, jl_2, jl_3, jl_4, jl_5, jl_6, jl_7, jl_8, jl_9, jl_12, jl_13, jl_16, jl_24, jl_25, jl_50, jl_168, jl_169, jl_624, jl_625, jl_1000, jI_add, jI_sub, jI_mul, jI_neg, jI_div, ie_mod, jI_leT, jI_leF, jI_ltT, jI_ltF, jI_eqT, jI_eqF, jI_cl, jI_inT, forall_eq, true_implies, false_implies, implies_true, not_true_eq_false, not_false_eq_true, true_and, and_true, b2_0, b2_z, b2_T, b2_F, mx, if_pos, if_neg] <;> rfl
      · cases a <;> cases b <;> simp (disch := omega) only [wpY_combined, jl_0, jl_1, jl_2, jl_3, jl_4, jl_5, jl_6, jl_7, jl_8, jl_9, jl_12, jl_13, jl_16, jl_24, jl_25, jl_50, jl_168, jl_169, jl_624, jl_625, jl_1000, jI_add, jI_sub, jI_mul, jI_neg, jI_div, ie_mod, jI_leT, jI_leF, jI_ltT, jI_ltF, jI_eqT, jI_eqF, jI_cl, jI_inT, forall_eq, true_implies, false_implies, implies_true, not_true_eq_false, not_false_eq_true, true_and, and_true, b2_0, b2_z, b2_T, b2_F, mx, if_pos, if_neg] <;> rfl
end
end
section
/-! ===== sums and counts ===== -/
def sm (f : Int → Int) : Nat → Int
  | 0 => 0
  | n + 1 => sm f n + f (n : Int)
theorem sm_c {f g : Int → Int} : ∀ n : Nat, (∀ i : Int, 0 ≤ i → i < n → f i = g i) → sm f n = sm g n := by
  intro n
  induction n with
  | zero => intro _; rfl
  | succ n ih =>
    intro h
    show sm f n + f n = sm g n + g n
    rw [ih (fun i h0 h1 => h i h0 (by omega)), h n (by omega) (by omega)]
theorem sm_add (f g : Int → Int) : ∀ n : Nat, sm (fun i => f i + g i) n = sm f n + sm g n := by
  intro n
  induction n with
  | zero => rfl
  | succ n ih =>
    show sm (fun i => f i + g i) n + (f n + g n) = sm f n + f n + (sm g n + g n)
    rw [ih]; omega
theorem sm_0 : ∀ n : Nat, sm (fun _ => 0) n = 0 := by
  intro n
  induction n with
  | zero => rfl
  | succ n ih => show sm (fun _ => 0) n + 0 = 0; rw [ih]; rfl
theorem sm_z {f : Int → Int} (n : Nat) (h : ∀ i : Int, 0 ≤ i → i < n → f i = 0) : sm f n = 0 := by
  rw [sm_c n h, sm_0]
theorem sm_split (f : Int → Int) (a : Nat) : ∀ b : Nat, sm f (a + b) = sm f a + sm (fun i => f (a + i)) b := by
  intro b
  induction b with
  | zero => show sm f a = sm f a + 0; omega
  | succ b ih =>
    show sm f (a + b) + f ((a + b : Nat) : Int) = sm f a + (sm (fun i => f (a + i)) b + f (a + b))
    rw [ih, show ((a + b : Nat) : Int) = (a : Int) + b by omega]; omega
theorem sm_x (f : Int → Int → Int) (b : Nat) : ∀ a : Nat, sm (fun i => sm (fun j => f i j) b) a = sm (fun j => sm (fun i => f i j) a) b := by
  intro a
  induction a with
  | zero => exact (sm_0 b).symm
  | succ a ih =>
    show sm (fun i => sm (fun j => f i j) b) a + sm (fun j => f a j) b = sm (fun j => sm (fun i => f i j) a + f a j) b
    rw [ih, sm_add]
theorem sm_25 (g : Int → Int → Int) : ∀ a : Nat, sm (fun n => g (n / 25) (n % 25)) (25 * a) = sm (fun i => sm (fun j => g i j) 25) a := by
  intro a
  induction a with
  | zero => rfl
  | succ a ih =>
    rw [show 25 * (a + 1) = 25 * a + 25 by omega, sm_split, ih]
    show _ = sm (fun i => sm (fun j => g i j) 25) a + sm (fun j => g a j) 25
    congr 1
    refine sm_c 25 (fun i h0 h1 => ?_)
    show g ((((25 * a : Nat) : Int) + i) / 25) ((((25 * a : Nat) : Int) + i) % 25) = g a i
    rw [show (((25 * a : Nat) : Int) + i) / 25 = a by omega, show (((25 * a : Nat) : Int) + i) % 25 = i by omega]
theorem sm_le {f g : Int → Int} : ∀ n : Nat, (∀ i : Int, 0 ≤ i → i < n → f i ≤ g i) → sm f n ≤ sm g n := by
  intro n
  induction n with
  | zero => intro _; exact Int.le_refl _
  | succ n ih =>
    intro h
    show sm f n + f n ≤ sm g n + g n
    have h1 := ih (fun i h0 h1 => h i h0 (by omega))
    have h2 := h n (by omega) (by omega)
    omega
theorem sm_lt {f g : Int → Int} : ∀ n : Nat, (∀ i : Int, 0 ≤ i → i < n → f i ≤ g i) → (∃ i : Int, 0 ≤ i ∧ i < n ∧ f i < g i) → sm f n < sm g n := by
  intro n
  induction n with
  | zero => rintro _ ⟨i, h0, h1, _⟩; omega
  | succ n ih =>
    rintro h ⟨i, h0, h1, h2⟩
    show sm f n + f n < sm g n + g n
    have k2 := h n (by omega) (by omega)
    by_cases e : i = n
    · subst e
      have := sm_le n (fun i h0 h1 => h i h0 (by omega))
      omega
    · have := ih (fun i h0 h1 => h i h0 (by omega)) ⟨i, h0, by omega, h2⟩
      omega
theorem sm_nn {f : Int → Int} (n : Nat) (h : ∀ i : Int, 0 ≤ i → i < n → 0 ≤ f i) : 0 ≤ sm f n := by
  have := sm_le n h
  rw [sm_0] at this
  exact this
def cn (p : Int → Bool) (n : Nat) : Int := sm (fun i => o1 (p i)) n
theorem cn_c {p q : Int → Bool} (n : Nat) (h : ∀ i : Int, 0 ≤ i → i < n → p i = q i) : cn p n = cn q n :=
  sm_c n (fun i h0 h1 => by rw [h i h0 h1])
theorem cn_nn (p : Int → Bool) (n : Nat) : 0 ≤ cn p n := sm_nn n (fun i _ _ => (o1_r _).1)
theorem cn_s (p : Int → Bool) (n : Nat) : cn p (n + 1) = cn p n + o1 (p n) := rfl
theorem cn_max (p : Int → Bool) : ∀ n : Nat, cn p n ≤ n := by
  intro n
  induction n with
  | zero => exact Int.le_refl _
  | succ n ih => rw [cn_s]; have := o1_r (p n); omega
theorem cn_0 {p : Int → Bool} (n : Nat) (h : ∀ i : Int, 0 ≤ i → i < n → p i = false) : cn p n = 0 :=
  sm_z n (fun i h0 h1 => by rw [h i h0 h1]; rfl)
theorem cn_pos {p : Int → Bool} {n : Nat} {i : Int} (h0 : 0 ≤ i) (h1 : i < n) (h : p i = true) : 0 < cn p n := by
  have := sm_lt (f := fun _ => 0) (g := fun i => o1 (p i)) n (fun i _ _ => (o1_r _).1) ⟨i, h0, h1, by rw [h]; decide⟩
  rw [sm_0] at this
  exact this
/-- take one away -/
theorem cn_rm (q : Int → Bool) {b : Int} : ∀ m : Nat, 0 ≤ b → b < m → q b = true → cn q m = cn (fun i => q i && !decide (i = b)) m + 1 := by
  intro m
  induction m with
  | zero => intro h0 h1; omega
  | succ m ih =>
    intro h0 h1 hq
    rw [cn_s, cn_s]
    by_cases e : b = m
    · subst e
      have e1 : cn (fun i => q i && !decide (i = (m : Int))) m = cn q m := cn_c m (fun i _ h => by
        rw [decide_eq_false (by omega)]; simp)
      rw [e1, hq]
      simp [o1]
    · rw [ih h0 (by omega) hq, decide_eq_false (by omega)]
      simp only [Bool.not_false, Bool.and_true]
      omega
/-- an injection -/
theorem cn_inj (f : Int → Int) (m : Nat) : ∀ (n : Nat) (p q : Int → Bool),
    (∀ i : Int, 0 ≤ i → i < n → p i = true → 0 ≤ f i ∧ f i < m ∧ q (f i) = true) →
    (∀ i k : Int, 0 ≤ i → i < n → p i = true → 0 ≤ k → k < n → p k = true → f i = f k → i = k) → cn p n ≤ cn q m := by
  intro n
  induction n with
  | zero => intro p q _ _; exact cn_nn q m
  | succ n ih =>
    intro p q h hi
    rw [cn_s]
    cases e : p n with
    | false =>
      have := ih p q (fun i h0 h1 hp => h i h0 (by omega) hp) (fun i k a b c d e f => hi i k a (by omega) c d (by omega) f)
      simp only [o1]
      simpa using this
    | true =>
      obtain ⟨a, b, c⟩ := h n (by omega) (by omega) e
      rw [cn_rm q m a b c]
      have := ih p (fun i => q i && !decide (i = f n)) (fun i h0 h1 hp => by
        obtain ⟨a', b', c'⟩ := h i h0 (by omega) hp
        refine ⟨a', b', ?_⟩
        have : ¬ f i = f n := fun z => by
          have := hi i n h0 (by omega) hp (by omega) (by omega) e z
          omega
        rw [c', decide_eq_false this]; rfl) (fun i k a b c d e f => hi i k a (by omega) c d (by omega) f)
      simp only [o1]
      simp only [if_true]
      omega
theorem cn_or {p q : Int → Bool} (n : Nat) (h : ∀ i : Int, 0 ≤ i → i < n → ¬ (p i = true ∧ q i = true)) : cn (fun i => p i || q i) n = cn p n + cn q n := by
  unfold cn
  rw [← sm_add]
  refine sm_c n (fun i h0 h1 => ?_)
  have := h i h0 h1
  cases hp : p i <;> cases hq : q i <;> simp_all [o1]
theorem cn_ext {p : Int → Bool} {m : Nat} : ∀ d : Nat, (∀ i : Int, (m : Int) ≤ i → p i = false) → cn p (m + d) = cn p m := by
  intro d h
  show sm _ (m + d) = sm _ m
  rw [sm_split, sm_z d (fun i h0 h1 => by show o1 (p _) = 0; rw [h _ (by omega)]; rfl)]
  omega
end
section
/-! ===== arrays again ===== -/
theorem fl_up (f : Nat → Int32) {m : Int} (g : Int → Int32) {z : Int} {x : Int32} (h : 0 ≤ z ∧ z < m) : upd (fl f m g) z.toNat x = fl f m (fun j => if j = z then x else g j) := by
  funext k; unfold upd fl
  by_cases e : k = z.toNat
  · rw [if_pos e, if_pos (by omega)]; exact (if_pos (by omega)).symm
  · rw [if_neg e]
    by_cases e2 : (k : Int) < m
    · rw [if_pos e2, if_pos e2]; exact (if_neg (by omega)).symm
    · rw [if_neg e2, if_neg e2]
theorem fl_c {f : Nat → Int32} {m : Int} {g g' : Int → Int32} (h : ∀ j : Int, 0 ≤ j → j < m → g j = g' j) : fl f m g = fl f m g' := by
  funext k; unfold fl
  by_cases e2 : (k : Int) < m
  · rw [if_pos e2, if_pos e2, h _ (by omega) e2]
  · rw [if_neg e2, if_neg e2]
theorem up_id {f : Nat → Int32} {k : Nat} {x : Int32} (h : f k = x) : upd f k x = f := by
  funext j; unfold upd
  by_cases e : j = k
  · rw [if_pos e, e, h]
  · rw [if_neg e]
theorem up_up {f : Nat → Int32} {k : Nat} {x y : Int32} : upd (upd f k x) k y = upd f k y := by
  funext j; unfold upd
  by_cases e : j = k
  · rw [if_pos e, if_pos e]
  · rw [if_neg e, if_neg e, if_neg e]
/-! ===== accumulated disjunctions ===== -/
def ac (f : Int → Bool) (a : Bool) : Nat → Bool
  | 0 => a
  | n + 1 => ac f a n || f (n : Int)
theorem ac_s (f : Int → Bool) (a : Bool) {i : Int} (h : 0 ≤ i) : ac f a (i + 1).toNat = (ac f a i.toNat || f i) := by
  rw [show (i + 1).toNat = i.toNat + 1 by omega]
  show (ac f a i.toNat || f ((i.toNat : Nat) : Int)) = _
  rw [show ((i.toNat : Nat) : Int) = i by omega]
theorem ac_t (f : Int → Bool) (a : Bool) : ∀ n : Nat, ac f a n = true ↔ a = true ∨ ∃ i : Int, 0 ≤ i ∧ i < n ∧ f i = true := by
  intro n
  induction n with
  | zero =>
    constructor
    · intro h; exact Or.inl h
    · rintro (h | ⟨i, h0, h1, _⟩)
      · exact h
      · omega
  | succ n ih =>
    show (ac f a n || f n) = true ↔ _
    rw [Bool.or_eq_true, ih]
    constructor
    · rintro ((h | ⟨i, h0, h1, h2⟩) | h)
      · exact Or.inl h
      · exact Or.inr ⟨i, h0, by omega, h2⟩
      · exact Or.inr ⟨n, by omega, by omega, h⟩
    · rintro (h | ⟨i, h0, h1, h2⟩)
      · exact Or.inl (Or.inl h)
      · by_cases e : i = n
        · subst e; exact Or.inr h2
        · exact Or.inl (Or.inr ⟨i, h0, by omega, h2⟩)
/-! ===== closing ===== -/
def SO (S : Int → Int → Bool) : Prop := ∀ i j : Int, ¬ (0 ≤ i ∧ i < 25 ∧ 0 ≤ j ∧ j < 25) → S i j = false
def ch1 (S : Int → Int → Bool) (i j : Int) : Bool := S i j || (decide (i % 2 = 0) && (S (i - 1) j || S (i + 1) j))
def ch2 (S : Int → Int → Bool) (i j : Int) : Bool := S i j || (decide (j % 2 = 0) && (S i (j - 1) || S i (j + 1)))
def clo (S : Int → Int → Bool) : Int → Int → Bool := ch2 (ch1 S)
theorem ch1_o {S : Int → Int → Bool} (h : SO S) : SO (ch1 S) := by
  intro i j hij
  unfold ch1
  rw [h i j hij]
  by_cases e : i % 2 = 0
  · rw [h (i - 1) j (by omega), h (i + 1) j (by omega)]; simp
  · rw [decide_eq_false e]; rfl
theorem ch2_o {S : Int → Int → Bool} (h : SO S) : SO (ch2 S) := by
  intro i j hij
  unfold ch2
  rw [h i j hij]
  by_cases e : j % 2 = 0
  · rw [h i (j - 1) (by omega), h i (j + 1) (by omega)]; simp
  · rw [decide_eq_false e]; rfl
theorem clo_o {S : Int → Int → Bool} (h : SO S) : SO (clo S) := ch2_o (ch1_o h)
theorem clo_cl (S : Int → Int → Bool) : Cl (clo S) := by
  intro i j h
  unfold clo ch2 ch1 at *
  constructor
  · intro hi
    have e0 : ¬ i % 2 = 0 := by omega
    have e1 : (i - 1) % 2 = 0 := by omega
    have e2 : (i + 1) % 2 = 0 := by omega
    rw [decide_eq_false e0] at h
    rw [decide_eq_true e1, decide_eq_true e2]
    simp only [show i - 1 + 1 = i by omega, show i + 1 - 1 = i by omega]
    by_cases hj : j % 2 = 0
    · rw [decide_eq_true hj] at *
      simp only [Bool.false_and, Bool.or_false, Bool.true_and, Bool.or_eq_true] at *
      rcases h with h | h | h <;> simp [h]
    · rw [decide_eq_false hj] at *
      simp only [Bool.false_and, Bool.or_false, Bool.true_and, Bool.or_eq_true] at *
      simp [h]
  · intro hj
    have e0 : ¬ j % 2 = 0 := by omega
    have e1 : (j - 1) % 2 = 0 := by omega
    have e2 : (j + 1) % 2 = 0 := by omega
    rw [decide_eq_false e0] at h
    rw [decide_eq_true e1, decide_eq_true e2]
    simp only [show j - 1 + 1 = j by omega, show j + 1 - 1 = j by omega]
    simp only [Bool.false_and, Bool.or_false] at h
    simp [h]
section
variable {c bd : Int32} {rows drawn passed work inner crn rfr rto par cel opn rst : Nat → Int32}
variable {post : SX → Prop}
theorem xx_mix {post : Int32 → Prop} {op : Int} {F G : Int → Bool} (h : 0 ≤ op ∧ op ≤ 3) : wpX_mix post (jI op) (wd F) (wd G) = post (wd (fun i => mx op (F i) (G i))) := by
  by_cases h0 : op = 0
  · simp (disch := omega) only [wpX_mix, jl_0, jl_1, jl_2, jl_3, jl_4, jl_5, jl_6, jl_7, jl_8, jl_9, jl_12, jl_13, jl_16, jl_24, jl_25, jl_50, jl_168, jl_169, jl_624, jl_625, jl_1000, jI_add, jI_sub, jI_mul, jI_neg, jI_div, ie_mod, jI_leT, jI_leF, jI_ltT, jI_ltF, jI_eqT, jI_eqF, jI_cl, jI_inT, forall_eq, true_implies, false_implies, implies_true, not_true_eq_false, not_false_eq_true, true_and, and_true, b2_0, b2_z, mx, if_pos, wd_and, wd_or, wd_xor, wd_notJ, wd_shl, wd_shr, wd_ushr, wd_one, wd_mA, wd_m5, wd_mF]
  · by_cases h1 : op = 1
    · simp (disch := omega) only [wpX_mix, jl_0, jl_1, jl_2, jl_3, jl_4, jl_5, jl_6, jl_7, jl_8, jl_9, jl_12, jl_13, jl_16, jl_24, jl_25, jl_50, jl_168, jl_169, jl_624, jl_625, jl_1000, jI_add, jI_sub, jI_mul, jI_neg, jI_div, ie_mod, jI_leT, jI_leF, jI_ltT, jI_ltF, jI_eqT, jI_eqF, jI_cl, jI_inT, forall_eq, true_implies, false_implies, implies_true, not_true_eq_false, not_false_eq_true, true_and, and_true, b2_0, b2_z, mx, if_pos, if_neg, wd_and, wd_or, wd_xor, wd_notJ, wd_shl, wd_shr, wd_ushr, wd_one, wd_mA, wd_m5, wd_mF]
    · by_cases h2 : op = 2
      · simp (disch := omega) only [wpX_mix, jl_0, jl_1, jl_2, jl_3, jl_4, jl_5, jl_6, jl_7, jl_8, jl_9, jl_12, jl_13, jl_16, jl_24, jl_25, jl_50, jl_168, jl_169, jl_624, jl_625, jl_1000, jI_add, jI_sub, jI_mul, jI_neg, jI_div, ie_mod, jI_leT, jI_leF, jI_ltT, jI_ltF, jI_eqT, jI_eqF, jI_cl, jI_inT, forall_eq, true_implies, false_implies, implies_true, not_true_eq_false, not_false_eq_true, true_and, and_true, b2_0, b2_z, mx, if_pos, if_neg, wd_and, wd_or, wd_xor, wd_notJ, wd_shl, wd_shr, wd_ushr, wd_one, wd_mA, wd_m5, wd_mF]
      · simp (disch := omega) only [wpX_mix, jl_0, jl_1, jl_2, jl_3, jl_4, jl_5, jl_6, jl_7, jl_8, jl_9, jl_12, jl_13, jl_16, jl_24, jl_25, jl_50, jl_168, jl_169, jl_624, jl_625, jl_1000, jI_add, jI_sub, jI_mul, jI_neg, jI_div, ie_mod, jI_leT, jI_leF, jI_ltT, jI_ltF, jI_eqT, jI_eqF, jI_cl, jI_inT, forall_eq, true_implies, false_implies, implies_true, not_true_eq_false, not_false_eq_true, true_and, and_true, b2_0, b2_z, mx, if_pos, if_neg, wd_and, wd_or, wd_xor, wd_notJ, wd_shl, wd_shr, wd_ushr, wd_one, wd_mA, wd_m5, wd_mF]
theorem xx_keep {l : Int} (hl : 0 ≤ l ∧ l < 6) (h : post (c, bd, wr rows (25 * l) 25 (fun j => work j.toNat), drawn, passed, work, inner, crn, rfr, rto, par, cel, opn, rst)) : wpX_keep post (c, bd, rows, drawn, passed, work, inner, crn, rfr, rto, par, cel, opn, rst) (jI l) := by
  simp only [wpX_keep]
  refine lj_a (fun n i s => wX_keep_2 post (jI l) c bd n (jI i) s drawn passed work inner crn rfr rto par cel opn rst) (fun i => wr rows (25 * l) i (fun j => work j.toNat)) 0 25 (wr_0 _ _ _).symm (by omega) (fun n => ?_) (fun n i h0 h1 ih => ?_)
  · simp (disch := omega) only [wX_keep_2, jl_0, jl_1, jl_2, jl_3, jl_4, jl_5, jl_6, jl_7, jl_8, jl_9, jl_12, jl_13, jl_16, jl_24, jl_25, jl_50, jl_168, jl_169, jl_624, jl_625, jl_1000, jI_add, jI_sub, jI_mul, jI_neg, jI_div, ie_mod, jI_leT, jI_leF, jI_ltT, jI_ltF, jI_eqT, jI_eqF, jI_cl, jI_inT, forall_eq, true_implies, false_implies, implies_true, not_true_eq_false, not_false_eq_true, true_and, and_true, b2_0, b2_z]; exact h
  · simp (disch := omega) only [wX_keep_2, jl_0, jl_1, jl_2, jl_3, jl_4, jl_5, jl_6, jl_7, jl_8, jl_9, jl_12, jl_13, jl_16, jl_24, jl_25, jl_50, jl_168, jl_169, jl_624, jl_625, jl_1000, jI_add, jI_sub, jI_mul, jI_neg, jI_div, ie_mod, jI_leT, jI_leF, jI_ltT, jI_ltF, jI_eqT, jI_eqF, jI_cl, jI_inT, forall_eq, true_implies, false_implies, implies_true, not_true_eq_false, not_false_eq_true, true_and, and_true, b2_0, b2_z]
    rw [wr_S _ _ (by omega) rfl]; exact ih
def cg (S : Int → Int → Bool) (k : Int) (j : Int) : Int32 := wd (fun i => ch1 S i j || (decide (j % 2 = 0) && ((decide (j - 1 < 2 * k) && ch1 S i (j - 1)) || (decide (j + 1 < 2 * k) && ch1 S i (j + 1)))))
theorem xx_close {S : Int → Int → Bool} (hS : ∀ j : Int, 0 ≤ j → j < 25 → work j.toNat = wd (fun i => S i j)) (hO : SO S)
    (h : post (c, bd, rows, drawn, passed, fl work 25 (fun j => wd (fun i => clo S i j)), inner, crn, rfr, rto, par, cel, opn, rst)) : wpX_close post (c, bd, rows, drawn, passed, work, inner, crn, rfr, rto, par, cel, opn, rst) := by
  simp only [wpX_close]
  refine lj_a (fun n i s => wX_close_2 post c bd n (jI i) rows drawn passed s inner crn rfr rto par cel opn rst) (fun i => fl work i (fun j => wd (fun i => ch1 S i j))) 0 25 (fl_0 _ _).symm (by omega) (fun n => ?_) (fun n i h0 h1 ih => ?_)
  · simp (disch := omega) only [wX_close_2, jl_0, jl_1, jl_2, jl_3, jl_4, jl_5, jl_6, jl_7, jl_8, jl_9, jl_12, jl_13, jl_16, jl_24, jl_25, jl_50, jl_168, jl_169, jl_624, jl_625, jl_1000, jI_add, jI_sub, jI_mul, jI_neg, jI_div, ie_mod, jI_leT, jI_leF, jI_ltT, jI_ltF, jI_eqT, jI_eqF, jI_cl, jI_inT, forall_eq, true_implies, false_implies, implies_true, not_true_eq_false, not_false_eq_true, true_and, and_true, b2_0, b2_z]
    have e0 : fl work 25 (fun j => wd (fun i => ch1 S i j)) = fl work 25 (cg S 0) := fl_c (fun j h0 h1 => wd_c (fun i _ _ => by
      by_cases e : j = 0
      · subst e
        rw [ch1_o hO i (0 - 1) (by omega), decide_eq_false (show ¬ (0 : Int) + 1 < 2 * 0 by omega)]; simp
      · rw [decide_eq_false (show ¬ j - 1 < 2 * 0 by omega), decide_eq_false (show ¬ j + 1 < 2 * 0 by omega)]; simp))
    refine lj_a (fun n k s => wX_close_42 post c bd n (jI (2 * k + 1)) rows drawn passed s inner crn rfr rto par cel opn rst) (fun k => fl work 25 (cg S k)) 0 12 e0 (by omega) (fun n => ?_) (fun n k h0 h1 ih => ?_)
    · simp (disch := omega) only [wX_close_42, jl_0, jl_1, jl_2, jl_3, jl_4, jl_5, jl_6, jl_7, jl_8, jl_9, jl_12, jl_13, jl_16, jl_24, jl_25, jl_50, jl_168, jl_169, jl_624, jl_625, jl_1000, jI_add, jI_sub, jI_mul, jI_neg, jI_div, ie_mod, jI_leT, jI_leF, jI_ltT, jI_ltF, jI_eqT, jI_eqF, jI_cl, jI_inT, forall_eq, true_implies, false_implies, implies_true, not_true_eq_false, not_false_eq_true, true_and, and_true, b2_0, b2_z]
      have e : fl work 25 (cg S 12) = fl work 25 (fun j => wd (fun i => clo S i j)) := fl_c (fun j h0 h1 => wd_c (fun i _ _ => by
        unfold clo
        show _ = ch2 (ch1 S) i j
        unfold ch2
        by_cases e : j = 24
        · subst e
          rw [ch1_o hO i (24 + 1) (by omega), decide_eq_true (show (24 : Int) - 1 < 2 * 12 by omega)]; simp
        · by_cases e2 : j % 2 = 0
          · rw [decide_eq_true (show j - 1 < 2 * 12 by omega), decide_eq_true (show j + 1 < 2 * 12 by omega)]; simp
          · rw [decide_eq_false e2]; simp))
      rw [e]; exact h
    · simp (disch := omega) only [wX_close_42, jl_0, jl_1, jl_2, jl_3, jl_4, jl_5, jl_6, jl_7, jl_8, jl_9, jl_12, jl_13, jl_16, jl_24, jl_25, jl_50, jl_168, jl_169, jl_624, jl_625, jl_1000, jI_add, jI_sub, jI_mul, jI_neg, jI_div, ie_mod, jI_leT, jI_leF, jI_ltT, jI_ltF, jI_eqT, jI_eqF, jI_cl, jI_inT, forall_eq, true_implies, false_implies, implies_true, not_true_eq_false, not_false_eq_true, true_and, and_true, b2_0, b2_z, fl_r, fl_up]
      rw [show 2 * k + 1 + 2 = 2 * (k + 1) + 1 by omega]
      refine Eq.mp ?_ ih
      congr 1
      refine fl_c (fun j h0 h1 => ?_)
      have ek : (2 * k + 1 + 1 = 2 * k + 1 - 1) = False := eq_false (by omega)
      have ek2 : (2 * k + 1 = 2 * k + 1 - 1) = False := eq_false (by omega)
      by_cases e1 : j = 2 * k + 1 + 1
      · rw [if_pos e1]
        simp only [ek, ek2, if_false]
        unfold cg
        rw [wd_or]
        refine wd_c (fun i _ _ => ?_)
        subst e1
        simp (disch := omega) only [dc_T, dc_F]
        rw [show 2 * k + 1 + 1 - 1 = 2 * k + 1 by omega]
        simp
      · rw [if_neg e1]
        by_cases e2 : j = 2 * k + 1 - 1
        · rw [if_pos e2]
          unfold cg
          rw [wd_or]
          refine wd_c (fun i _ _ => ?_)
          subst e2
          simp (disch := omega) only [dc_T, dc_F]
          rw [show 2 * k + 1 - 1 + 1 = 2 * k + 1 by omega]
          simp [Bool.or_assoc]
        · rw [if_neg e2]
          unfold cg
          refine wd_c (fun i _ _ => ?_)
          by_cases e3 : j % 2 = 0
          · rw [show decide (j - 1 < 2 * (k + 1)) = decide (j - 1 < 2 * k) from decide_eq_decide.mpr (by omega), show decide (j + 1 < 2 * (k + 1)) = decide (j + 1 < 2 * k) from decide_eq_decide.mpr (by omega)]
          · rw [decide_eq_false e3]; simp
  · simp (disch := omega) only [wX_close_2, jl_0, jl_1, jl_2, jl_3, jl_4, jl_5, jl_6, jl_7, jl_8, jl_9, jl_12, jl_13, jl_16, jl_24, jl_25, jl_50, jl_168, jl_169, jl_624, jl_625, jl_1000, jI_add, jI_sub, jI_mul, jI_neg, jI_div, ie_mod, jI_leT, jI_leF, jI_ltT, jI_ltF, jI_eqT, jI_eqF, jI_cl, jI_inT, forall_eq, true_implies, false_implies, implies_true, not_true_eq_false, not_false_eq_true, true_and, and_true, b2_0, b2_z, fl_o, hS, wd_and, wd_or, wd_xor, wd_notJ, wd_shl, wd_shr, wd_ushr, wd_one, wd_mA, wd_m5, wd_mF]
    rw [fl_S _ _ h0 ?_]
    · exact ih
    · refine wd_c (fun k k0 k1 => ?_)
      unfold ch1
      by_cases hk : k < 25
      · by_cases hp : k % 2 = 0
        · by_cases hz : k = 0
          · subst hz
            simp (disch := omega) only [dc_T, dc_F, if_pos, hO (0 - 1) i (by omega)]
            simp
          · simp (disch := omega) only [dc_T, dc_F, if_pos]
            by_cases hk24 : k = 24
            · subst hk24
              simp (disch := omega) only [dc_T, dc_F, hO (24 + 1) i (by omega)]
              simp
            · simp (disch := omega) only [dc_T, dc_F]
              simp
        · simp (disch := omega) only [dc_T, dc_F, if_pos]
          simp
      · simp (disch := omega) only [hO k i (by omega), hO (k - 1) i, hO (k + 1) i (by omega), dc_F, hO 31 i (by omega)]
        by_cases hk : k = 25
        · subst hk
          simp (disch := omega) only [dc_F, dc_T, hO (25 + 1) i (by omega), if_pos]
          simp
        · rw [hO (k - 1) i (by omega)]
          simp
end
end
section
def fcb (i j di dj : Int) : Bool := decide (0 ≤ i + di ∧ i + di < 25 ∧ 0 ≤ j + dj ∧ j + dj < 25) && decide (di < 0 ∨ 0 < di ∨ dj < 0 ∨ 0 < dj) && decide (di = 0 ∨ (i + di) % 2 = 1) && decide (dj = 0 ∨ (j + dj) % 2 = 1)
/-- what one direction adds -/
def fcs (S : Int → Int → Bool) (i j d : Int) : Bool := fcb i j (d / 3 - 1) (d % 3 - 1) && S (i + (d / 3 - 1)) (j + (d % 3 - 1))
theorem fcs_clo {S : Int → Int → Bool} (hO : SO S) {i j : Int} (h : 0 ≤ i ∧ i < 25 ∧ 0 ≤ j ∧ j < 25) : ac (fcs S i j) (S i j) 9 = clo S i j := by
  have e : ac (fcs S i j) (S i j) 9 = (S i j || fcs S i j 0 || fcs S i j 1 || fcs S i j 2 || fcs S i j 3 || fcs S i j 4 || fcs S i j 5 || fcs S i j 6 || fcs S i j 7 || fcs S i j 8) := rfl
  rw [e]
  have k0 : fcs S i j 0 = (decide (i % 2 = 0) && decide (j % 2 = 0) && S (i - 1) (j - 1)) := by
    unfold fcs fcb
    show (decide (0 ≤ i + -1 ∧ i + -1 < 25 ∧ 0 ≤ j + -1 ∧ j + -1 < 25) && decide ((-1 : Int) < 0 ∨ (0 : Int) < -1 ∨ (-1 : Int) < 0 ∨ (0 : Int) < -1) && decide ((-1 : Int) = 0 ∨ (i + -1) % 2 = 1) && decide ((-1 : Int) = 0 ∨ (j + -1) % 2 = 1) && S (i + -1) (j + -1)) = _
    rw [show i + -1 = i - 1 by omega, show j + -1 = j - 1 by omega]
    by_cases hb : 0 ≤ i - 1 ∧ i - 1 < 25 ∧ 0 ≤ j - 1 ∧ j - 1 < 25
    · rw [decide_eq_true hb]
      by_cases hi : i % 2 = 0
      · by_cases hj : j % 2 = 0
        · simp (disch := omega) only [dc_T]; simp
        · simp (disch := omega) only [dc_T, dc_F]; simp
      · simp (disch := omega) only [dc_T, dc_F]; simp
    · rw [hO _ _ hb]; simp
  have k1 : fcs S i j 1 = (decide (i % 2 = 0) && S (i - 1) j) := by
    unfold fcs fcb
    show (decide (0 ≤ i + -1 ∧ i + -1 < 25 ∧ 0 ≤ j + 0 ∧ j + 0 < 25) && decide ((-1 : Int) < 0 ∨ (0 : Int) < -1 ∨ (0 : Int) < 0 ∨ (0 : Int) < 0) && decide ((-1 : Int) = 0 ∨ (i + -1) % 2 = 1) && decide ((0 : Int) = 0 ∨ (j + 0) % 2 = 1) && S (i + -1) (j + 0)) = _
    rw [show i + -1 = i - 1 by omega, show j + 0 = j by omega]
    by_cases hb : 0 ≤ i - 1 ∧ i - 1 < 25 ∧ 0 ≤ j ∧ j < 25
    · rw [decide_eq_true hb]
      by_cases hi : i % 2 = 0
      · simp (disch := omega) only [dc_T, dc_F]; simp
      · simp (disch := omega) only [dc_T, dc_F]; simp
    · rw [hO _ _ hb]; simp
  have k2 : fcs S i j 2 = (decide (i % 2 = 0) && decide (j % 2 = 0) && S (i - 1) (j + 1)) := by
    unfold fcs fcb
    show (decide (0 ≤ i + -1 ∧ i + -1 < 25 ∧ 0 ≤ j + 1 ∧ j + 1 < 25) && decide ((-1 : Int) < 0 ∨ (0 : Int) < -1 ∨ (1 : Int) < 0 ∨ (0 : Int) < 1) && decide ((-1 : Int) = 0 ∨ (i + -1) % 2 = 1) && decide ((1 : Int) = 0 ∨ (j + 1) % 2 = 1) && S (i + -1) (j + 1)) = _
    rw [show i + -1 = i - 1 by omega]
    by_cases hb : 0 ≤ i - 1 ∧ i - 1 < 25 ∧ 0 ≤ j + 1 ∧ j + 1 < 25
    · rw [decide_eq_true hb]
      by_cases hi : i % 2 = 0
      · by_cases hj : j % 2 = 0
        · simp (disch := omega) only [dc_T]; simp
        · simp (disch := omega) only [dc_T, dc_F]; simp
      · simp (disch := omega) only [dc_T, dc_F]; simp
    · rw [hO _ _ hb]; simp
  have k3 : fcs S i j 3 = (decide (j % 2 = 0) && S i (j - 1)) := by
    unfold fcs fcb
    show (decide (0 ≤ i + 0 ∧ i + 0 < 25 ∧ 0 ≤ j + -1 ∧ j + -1 < 25) && decide ((0 : Int) < 0 ∨ (0 : Int) < 0 ∨ (-1 : Int) < 0 ∨ (0 : Int) < -1) && decide ((0 : Int) = 0 ∨ (i + 0) % 2 = 1) && decide ((-1 : Int) = 0 ∨ (j + -1) % 2 = 1) && S (i + 0) (j + -1)) = _
    rw [show j + -1 = j - 1 by omega, show i + 0 = i by omega]
    by_cases hb : 0 ≤ i ∧ i < 25 ∧ 0 ≤ j - 1 ∧ j - 1 < 25
    · rw [decide_eq_true hb]
      by_cases hi : j % 2 = 0
      · simp (disch := omega) only [dc_T, dc_F]; simp
      · simp (disch := omega) only [dc_T, dc_F]; simp
    · rw [hO _ _ hb]; simp
  have k4 : fcs S i j 4 = false := by
    unfold fcs fcb
    show (decide (0 ≤ i + 0 ∧ i + 0 < 25 ∧ 0 ≤ j + 0 ∧ j + 0 < 25) && decide ((0 : Int) < 0 ∨ (0 : Int) < 0 ∨ (0 : Int) < 0 ∨ (0 : Int) < 0) && decide ((0 : Int) = 0 ∨ (i + 0) % 2 = 1) && decide ((0 : Int) = 0 ∨ (j + 0) % 2 = 1) && S (i + 0) (j + 0)) = _
    simp
  have k5 : fcs S i j 5 = (decide (j % 2 = 0) && S i (j + 1)) := by
    unfold fcs fcb
    show (decide (0 ≤ i + 0 ∧ i + 0 < 25 ∧ 0 ≤ j + 1 ∧ j + 1 < 25) && decide ((0 : Int) < 0 ∨ (0 : Int) < 0 ∨ (1 : Int) < 0 ∨ (0 : Int) < 1) && decide ((0 : Int) = 0 ∨ (i + 0) % 2 = 1) && decide ((1 : Int) = 0 ∨ (j + 1) % 2 = 1) && S (i + 0) (j + 1)) = _
    rw [show i + 0 = i by omega]
    by_cases hb : 0 ≤ i ∧ i < 25 ∧ 0 ≤ j + 1 ∧ j + 1 < 25
    · rw [decide_eq_true hb]
      by_cases hi : j % 2 = 0
      · simp (disch := omega) only [dc_T, dc_F]; simp
      · simp (disch := omega) only [dc_T, dc_F]; simp
    · rw [hO _ _ hb]; simp
  have k6 : fcs S i j 6 = (decide (i % 2 = 0) && decide (j % 2 = 0) && S (i + 1) (j - 1)) := by
    unfold fcs fcb
    show (decide (0 ≤ i + 1 ∧ i + 1 < 25 ∧ 0 ≤ j + -1 ∧ j + -1 < 25) && decide ((1 : Int) < 0 ∨ (0 : Int) < 1 ∨ (-1 : Int) < 0 ∨ (0 : Int) < -1) && decide ((1 : Int) = 0 ∨ (i + 1) % 2 = 1) && decide ((-1 : Int) = 0 ∨ (j + -1) % 2 = 1) && S (i + 1) (j + -1)) = _
    rw [show j + -1 = j - 1 by omega]
    by_cases hb : 0 ≤ i + 1 ∧ i + 1 < 25 ∧ 0 ≤ j - 1 ∧ j - 1 < 25
    · rw [decide_eq_true hb]
      by_cases hi : i % 2 = 0
      · by_cases hj : j % 2 = 0
        · simp (disch := omega) only [dc_T]; simp
        · simp (disch := omega) only [dc_T, dc_F]; simp
      · simp (disch := omega) only [dc_T, dc_F]; simp
    · rw [hO _ _ hb]; simp
  have k7 : fcs S i j 7 = (decide (i % 2 = 0) && S (i + 1) j) := by
    unfold fcs fcb
    show (decide (0 ≤ i + 1 ∧ i + 1 < 25 ∧ 0 ≤ j + 0 ∧ j + 0 < 25) && decide ((1 : Int) < 0 ∨ (0 : Int) < 1 ∨ (0 : Int) < 0 ∨ (0 : Int) < 0) && decide ((1 : Int) = 0 ∨ (i + 1) % 2 = 1) && decide ((0 : Int) = 0 ∨ (j + 0) % 2 = 1) && S (i + 1) (j + 0)) = _
    rw [show j + 0 = j by omega]
    by_cases hb : 0 ≤ i + 1 ∧ i + 1 < 25 ∧ 0 ≤ j ∧ j < 25
    · rw [decide_eq_true hb]
      by_cases hi : i % 2 = 0
      · simp (disch := omega) only [dc_T, dc_F]; simp
      · simp (disch := omega) only [dc_T, dc_F]; simp
    · rw [hO _ _ hb]; simp
  have k8 : fcs S i j 8 = (decide (i % 2 = 0) && decide (j % 2 = 0) && S (i + 1) (j + 1)) := by
    unfold fcs fcb
    show (decide (0 ≤ i + 1 ∧ i + 1 < 25 ∧ 0 ≤ j + 1 ∧ j + 1 < 25) && decide ((1 : Int) < 0 ∨ (0 : Int) < 1 ∨ (1 : Int) < 0 ∨ (0 : Int) < 1) && decide ((1 : Int) = 0 ∨ (i + 1) % 2 = 1) && decide ((1 : Int) = 0 ∨ (j + 1) % 2 = 1) && S (i + 1) (j + 1)) = _
    by_cases hb : 0 ≤ i + 1 ∧ i + 1 < 25 ∧ 0 ≤ j + 1 ∧ j + 1 < 25
    · rw [decide_eq_true hb]
      by_cases hi : i % 2 = 0
      · by_cases hj : j % 2 = 0
        · simp (disch := omega) only [dc_T]; simp
        · simp (disch := omega) only [dc_T, dc_F]; simp
      · simp (disch := omega) only [dc_T, dc_F]; simp
    · rw [hO _ _ hb]; simp
  rw [k0, k1, k2, k3, k4, k5, k6, k7, k8]
  unfold clo ch2 ch1
  generalize decide (i % 2 = 0) = ei, decide (j % 2 = 0) = ej, S i j = a, S (i - 1) (j - 1) = p, S (i - 1) j = q, S (i - 1) (j + 1) = r, S i (j - 1) = s, S i (j + 1) = t, S (i + 1) (j - 1) = u, S (i + 1) j = v, S (i + 1) (j + 1) = w
  revert ei ej a p q r s t u v w
  decide +kernel
section
variable {cy : Int32} {lys fil mad st px py lab : Nat → Int32}
theorem yy_face {post : Int32 → Prop} {i j di dj : Int} (h : 0 ≤ i ∧ i < 25 ∧ 0 ≤ j ∧ j < 25 ∧ -1 ≤ di ∧ di ≤ 1 ∧ -1 ≤ dj ∧ dj ≤ 1) : wpY_isFaceOf post (cy, lys, fil, mad, st, px, py, lab) (jI i) (jI j) (jI di) (jI dj) = post (b2 (fcb i j di dj)) := by
  unfold fcb
  by_cases hb : 0 ≤ i + di ∧ i + di < 25 ∧ 0 ≤ j + dj ∧ j + dj < 25
  · have hT : ∀ x : Int, jI x = jI x := fun _ => rfl
    by_cases d0 : di = 0
    · by_cases e0 : dj = 0
      · simp (disch := omega) only [wpY_isFaceOf, wY_isFaceOf_23, wY_isFaceOf_36, yy_at, jl_0, jl_1, jl_2, jl_3, jl_4, jl_5, jl_6, jl_7, jl_8, jl_9, jl_12, jl_13, jl_16, jl_24, jl_25, jl_50, jl_168, jl_169, jl_624, jl_625, jl_1000, jI_add, jI_sub, jI_mul, jI_neg, jI_div, ie_mod, jI_leT, jI_leF, jI_ltT, jI_ltF, jI_eqT, jI_eqF, jI_cl, jI_inT, forall_eq, true_implies, false_implies, implies_true, not_true_eq_false, not_false_eq_true, true_and, and_true, b2_0, b2_z, dc_T, dc_F, Bool.and_true, Bool.and_false, Bool.true_and, Bool.false_and, b2_T, b2_F]
      · by_cases e1 : (j + dj) % 2 = 1
        · simp (disch := omega) only [wpY_isFaceOf, wY_isFaceOf_23, wY_isFaceOf_36, yy_at, jl_0, jl_1, jl_2, jl_3, jl_4, jl_5, jl_6, jl_7, jl_8, jl_9, jl_12, jl_13, jl_16, jl_24, jl_25, jl_50, jl_168, jl_169, jl_624, jl_625, jl_1000, jI_add, jI_sub, jI_mul, jI_neg, jI_div, ie_mod, jI_leT, jI_leF, jI_ltT, jI_ltF, jI_eqT, jI_eqF, jI_cl, jI_inT, forall_eq, true_implies, false_implies, implies_true, not_true_eq_false, not_false_eq_true, true_and, and_true, b2_0, b2_z, dc_T, dc_F, Bool.and_true, Bool.and_false, Bool.true_and, Bool.false_and, b2_T, b2_F]
        · simp (disch := omega) only [wpY_isFaceOf, wY_isFaceOf_23, wY_isFaceOf_36, yy_at, jl_0, jl_1, jl_2, jl_3, jl_4, jl_5, jl_6, jl_7, jl_8, jl_9, jl_12, jl_13, jl_16, jl_24, jl_25, jl_50, jl_168, jl_169, jl_624, jl_625, jl_1000, jI_add, jI_sub, jI_mul, jI_neg, jI_div, ie_mod, jI_leT, jI_leF, jI_ltT, jI_ltF, jI_eqT, jI_eqF, jI_cl, jI_inT, forall_eq, true_implies, false_implies, implies_true, not_true_eq_false, not_false_eq_true, true_and, and_true, b2_0, b2_z, dc_T, dc_F, Bool.and_true, Bool.and_false, Bool.true_and, Bool.false_and, b2_T, b2_F]
    · by_cases d1 : (i + di) % 2 = 1
      · by_cases e0 : dj = 0
        · simp (disch := omega) only [wpY_isFaceOf, wY_isFaceOf_23, wY_isFaceOf_36, yy_at, jl_0, jl_1, jl_2, jl_3, jl_4, jl_5, jl_6, jl_7, jl_8, jl_9, jl_12, jl_13, jl_16, jl_24, jl_25, jl_50, jl_168, jl_169, jl_624, jl_625, jl_1000, jI_add, jI_sub, jI_mul, jI_neg, jI_div, ie_mod, jI_leT, jI_leF, jI_ltT, jI_ltF, jI_eqT, jI_eqF, jI_cl, jI_inT, forall_eq, true_implies, false_implies, implies_true, not_true_eq_false, not_false_eq_true, true_and, and_true, b2_0, b2_z, dc_T, dc_F, Bool.and_true, Bool.and_false, Bool.true_and, Bool.false_and, b2_T, b2_F]
        · by_cases e1 : (j + dj) % 2 = 1
          · simp (disch := omega) only [wpY_isFaceOf, wY_isFaceOf_23, wY_isFaceOf_36, yy_at, jl_0, jl_1, jl_2, jl_3, jl_4, jl_5, jl_6, jl_7, jl_8, jl_9, jl_12, jl_13, jl_16, jl_24, jl_25, jl_50, jl_168, jl_169, jl_624, jl_625, jl_1000, jI_add, jI_sub, jI_mul, jI_neg, jI_div, ie_mod, jI_leT, jI_leF, jI_ltT, jI_ltF, jI_eqT, jI_eqF, jI_cl, jI_inT, forall_eq, true_implies, false_implies, implies_true, not_true_eq_false, not_false_eq_true, true_and, and_true, b2_0, b2_z, dc_T, dc_F, Bool.and_true, Bool.and_false, Bool.true_and, Bool.false_and, b2_T, b2_F]
          · simp (disch := omega) only [wpY_isFaceOf, wY_isFaceOf_23, wY_isFaceOf_36, yy_at, jl_0, jl_1, jl_2, jl_3, jl_4, jl_5, jl_6, jl_7, jl_8, jl_9, jl_12, jl_13, jl_16, jl_24, jl_25, jl_50, jl_168, jl_169, jl_624, jl_625, jl_1000, jI_add, jI_sub, jI_mul, jI_neg, jI_div, ie_mod, jI_leT, jI_leF, jI_ltT, jI_ltF, jI_eqT, jI_eqF, jI_cl, jI_inT, forall_eq, true_implies, false_implies, implies_true, not_true_eq_false, not_false_eq_true, true_and, and_true, b2_0, b2_z, dc_T, dc_F, Bool.and_true, Bool.and_false, Bool.true_and, Bool.false_and, b2_T, b2_F]
      · simp (disch := omega) only [wpY_isFaceOf, wY_isFaceOf_23, wY_isFaceOf_36, yy_at, jl_0, jl_1, jl_2, jl_3, jl_4, jl_5, jl_6, jl_7, jl_8, jl_9, jl_12, jl_13, jl_16, jl_24, jl_25, jl_50, jl_168, jl_169, jl_624, jl_625, jl_1000, jI_add, jI_sub, jI_mul, jI_neg, jI_div, ie_mod, jI_leT, jI_leF, jI_ltT, jI_ltF, jI_eqT, jI_eqF, jI_cl, jI_inT, forall_eq, true_implies, false_implies, implies_true, not_true_eq_false, not_false_eq_true, true_and, and_true, b2_0, b2_z, dc_T, dc_F, Bool.and_true, Bool.and_false, Bool.true_and, Bool.false_and, b2_T, b2_F]
  · simp (disch := omega) only [wpY_isFaceOf, yy_atF, jl_0, jl_1, jl_2, jl_3, jl_4, jl_5, jl_6, jl_7, jl_8, jl_9, jl_12, jl_13, jl_16, jl_24, jl_25, jl_50, jl_168, jl_169, jl_624, jl_625, jl_1000, jI_add, jI_sub, jI_mul, jI_neg, jI_div, ie_mod, jI_leT, jI_leF, jI_ltT, jI_ltF, jI_eqT, jI_eqF, jI_cl, jI_inT, forall_eq, true_implies, false_implies, implies_true, not_true_eq_false, not_false_eq_true, true_and, and_true, b2_0, b2_z]
    rw [decide_eq_false hb]
    rfl
variable {post : SY → Prop}
theorem yy_keep {l : Int} (hl : 0 ≤ l ∧ l < 6) (M : Int → Bool) (hM : ∀ n : Int, 0 ≤ n → n < 625 → mad n.toNat = b2 (M n)) (h : post (cy, wr lys (625 * l) 625 (fun n => b2 (M n)), fil, mad, st, px, py, lab)) : wpY_keep post (cy, lys, fil, mad, st, px, py, lab) (jI l) := by
  simp only [wpY_keep]
  refine lj_a (fun n i s => wY_keep_2 post (jI l) cy n (jI i) s fil mad st px py lab) (fun i => wr lys (625 * l) i (fun n => b2 (M n))) 0 625 (wr_0 _ _ _).symm (by omega) (fun n => ?_) (fun n i h0 h1 ih => ?_)
  · simp (disch := omega) only [wY_keep_2, jl_0, jl_1, jl_2, jl_3, jl_4, jl_5, jl_6, jl_7, jl_8, jl_9, jl_12, jl_13, jl_16, jl_24, jl_25, jl_50, jl_168, jl_169, jl_624, jl_625, jl_1000, jI_add, jI_sub, jI_mul, jI_neg, jI_div, ie_mod, jI_leT, jI_leF, jI_ltT, jI_ltF, jI_eqT, jI_eqF, jI_cl, jI_inT, forall_eq, true_implies, false_implies, implies_true, not_true_eq_false, not_false_eq_true, true_and, and_true, b2_0, b2_z]; exact h
  · simp (disch := omega) only [wY_keep_2, jl_0, jl_1, jl_2, jl_3, jl_4, jl_5, jl_6, jl_7, jl_8, jl_9, jl_12, jl_13, jl_16, jl_24, jl_25, jl_50, jl_168, jl_169, jl_624, jl_625, jl_1000, jI_add, jI_sub, jI_mul, jI_neg, jI_div, ie_mod, jI_leT, jI_leF, jI_ltT, jI_ltF, jI_eqT, jI_eqF, jI_cl, jI_inT, forall_eq, true_implies, false_implies, implies_true, not_true_eq_false, not_false_eq_true, true_and, and_true, b2_0, b2_z, hM, b2_nar]
    rw [wr_S _ _ (by omega) rfl]; exact ih
theorem yy_close {S : Int → Int → Bool} (hM : ∀ n : Int, 0 ≤ n → n < 625 → mad n.toNat = b2 (S (n / 25) (n % 25))) (hO : SO S)
    (h : ∀ st', post (cy, lys, fil, fl mad 625 (fun n => b2 (clo S (n / 25) (n % 25))), st', px, py, lab)) : wpY_close post (cy, lys, fil, mad, st, px, py, lab) := by
  simp only [wpY_close]
  refine lj_a (fun n i s => wY_close_2 post cy n (jI i) lys fil mad s px py lab) (fun i => fl st i (fun n => b2 (S (n / 25) (n % 25)))) 0 625 (fl_0 _ _).symm (by omega) (fun n => ?_) (fun n i h0 h1 ih => ?_)
  · simp (disch := omega) only [wY_close_2, jl_0, jl_1, jl_2, jl_3, jl_4, jl_5, jl_6, jl_7, jl_8, jl_9, jl_12, jl_13, jl_16, jl_24, jl_25, jl_50, jl_168, jl_169, jl_624, jl_625, jl_1000, jI_add, jI_sub, jI_mul, jI_neg, jI_div, ie_mod, jI_leT, jI_leF, jI_ltT, jI_ltF, jI_eqT, jI_eqF, jI_cl, jI_inT, forall_eq, true_implies, false_implies, implies_true, not_true_eq_false, not_false_eq_true, true_and, and_true, b2_0, b2_z]
    refine lj_a (fun n i s => wY_close_29 post cy n (jI i) lys fil s (fl st 625 (fun n => b2 (S (n / 25) (n % 25)))) px py lab) (fun i => fl mad i (fun n => b2 (clo S (n / 25) (n % 25)))) 0 625 (fl_0 _ _).symm (by omega) (fun n => ?_) (fun n i h0 h1 ih => ?_)
    · simp (disch := omega) only [wY_close_29, jl_0, jl_1, jl_2, jl_3, jl_4, jl_5, jl_6, jl_7, jl_8, jl_9, jl_12, jl_13, jl_16, jl_24, jl_25, jl_50, jl_168, jl_169, jl_624, jl_625, jl_1000, jI_add, jI_sub, jI_mul, jI_neg, jI_div, ie_mod, jI_leT, jI_leF, jI_ltT, jI_ltF, jI_eqT, jI_eqF, jI_cl, jI_inT, forall_eq, true_implies, false_implies, implies_true, not_true_eq_false, not_false_eq_true, true_and, and_true, b2_0, b2_z]; exact h _
    · simp (disch := omega) only [wY_close_29, jl_0, jl_1, jl_2, jl_3, jl_4, jl_5, jl_6, jl_7, jl_8, jl_9, jl_12, jl_13, jl_16, jl_24, jl_25, jl_50, jl_168, jl_169, jl_624, jl_625, jl_1000, jI_add, jI_sub, jI_mul, jI_neg, jI_div, ie_mod, jI_leT, jI_leF, jI_ltT, jI_ltF, jI_eqT, jI_eqF, jI_cl, jI_inT, forall_eq, true_implies, false_implies, implies_true, not_true_eq_false, not_false_eq_true, true_and, and_true, b2_0, b2_z]
      have ei : 0 ≤ i / 25 ∧ i / 25 < 25 ∧ 0 ≤ i % 25 ∧ i % 25 < 25 := by omega
      refine lj_a (fun n2 d s => wY_close_49 post (wY_close_29 post cy n) (jI i) (jI (i / 25)) (jI (i % 25)) cy n2 (jI d) lys fil s (fl st 625 (fun n => b2 (S (n / 25) (n % 25)))) px py lab)
        (fun d => upd (fl mad i (fun n => b2 (clo S (n / 25) (n % 25)))) i.toNat (b2 (ac (fcs S (i / 25) (i % 25)) (S (i / 25) (i % 25)) d.toNat))) 0 9 ?_ (by omega) (fun n2 => ?_) (fun n2 d d0 d1 ihd => ?_)
      · refine (up_id ?_).symm
        rw [fl_o (by omega), hM i h0 h1]
        rfl
      · simp (disch := omega) only [wY_close_49, jl_0, jl_1, jl_2, jl_3, jl_4, jl_5, jl_6, jl_7, jl_8, jl_9, jl_12, jl_13, jl_16, jl_24, jl_25, jl_50, jl_168, jl_169, jl_624, jl_625, jl_1000, jI_add, jI_sub, jI_mul, jI_neg, jI_div, ie_mod, jI_leT, jI_leF, jI_ltT, jI_ltF, jI_eqT, jI_eqF, jI_cl, jI_inT, forall_eq, true_implies, false_implies, implies_true, not_true_eq_false, not_false_eq_true, true_and, and_true, b2_0, b2_z]
        show wY_close_29 post cy n (jI (i + 1)) lys fil (upd (fl mad i (fun n => b2 (clo S (n / 25) (n % 25)))) i.toNat (b2 (ac (fcs S (i / 25) (i % 25)) (S (i / 25) (i % 25)) 9))) (fl st 625 (fun n => b2 (S (n / 25) (n % 25)))) px py lab
        rw [fcs_clo hO ei, fl_S _ _ h0 rfl]
        exact ih
      · simp (disch := omega) only [wY_close_49, jl_0, jl_1, jl_2, jl_3, jl_4, jl_5, jl_6, jl_7, jl_8, jl_9, jl_12, jl_13, jl_16, jl_24, jl_25, jl_50, jl_168, jl_169, jl_624, jl_625, jl_1000, jI_add, jI_sub, jI_mul, jI_neg, jI_div, ie_mod, jI_leT, jI_leF, jI_ltT, jI_ltF, jI_eqT, jI_eqF, jI_cl, jI_inT, forall_eq, true_implies, false_implies, implies_true, not_true_eq_false, not_false_eq_true, true_and, and_true, b2_0, b2_z, yy_face]
        rw [ac_s _ _ d0] at ihd
        rw [show fcs S (i / 25) (i % 25) d = (fcb (i / 25) (i % 25) (d / 3 - 1) (d % 3 - 1) && S (i / 25 + (d / 3 - 1)) (i % 25 + (d % 3 - 1))) from rfl] at ihd
        cases hf : fcb (i / 25) (i % 25) (d / 3 - 1) (d % 3 - 1) with
        | false =>
          simp only [true_implies, not_true_eq_false, false_implies, and_true]
          rw [hf] at ihd
          simpa using ihd
        | true =>
          simp only [reduceCtorEq, false_implies, not_false_eq_true, true_implies, true_and]
          have hb : 0 ≤ i / 25 + (d / 3 - 1) ∧ i / 25 + (d / 3 - 1) < 25 ∧ 0 ≤ i % 25 + (d % 3 - 1) ∧ i % 25 + (d % 3 - 1) < 25 := by
            unfold fcb at hf
            simp only [Bool.and_eq_true, decide_eq_true_eq] at hf
            exact hf.1.1.1
          rw [hf] at ihd
          have er : fl st 625 (fun n => b2 (S (n / 25) (n % 25))) (i + 25 * (d / 3 - 1) + (d % 3 - 1)).toNat = b2 (S (i / 25 + (d / 3 - 1)) (i % 25 + (d % 3 - 1))) := by
            rw [fl_r (by omega)]
            rw [show (i + 25 * (d / 3 - 1) + (d % 3 - 1)) / 25 = i / 25 + (d / 3 - 1) by omega, show (i + 25 * (d / 3 - 1) + (d % 3 - 1)) % 25 = i % 25 + (d % 3 - 1) by omega]
          simp (disch := omega) only [jl_0, jl_1, jl_2, jl_3, jl_4, jl_5, jl_6, jl_7, jl_8, jl_9, jl_12, jl_13, jl_16, jl_24, jl_25, jl_50, jl_168, jl_169, jl_624, jl_625, jl_1000, jI_add, jI_sub, jI_mul, jI_neg, jI_div, ie_mod, jI_leT, jI_leF, jI_ltT, jI_ltF, jI_eqT, jI_eqF, jI_cl, jI_inT, forall_eq, true_implies, false_implies, implies_true, not_true_eq_false, not_false_eq_true, true_and, and_true, b2_0, b2_z, er]
          cases hs : S (i / 25 + (d / 3 - 1)) (i % 25 + (d % 3 - 1)) with
          | false =>
            simp only [true_implies, not_true_eq_false, false_implies, and_true]
            rw [hs] at ihd
            simpa using ihd
          | true =>
            simp only [reduceCtorEq, false_implies, not_false_eq_true, true_implies, true_and]
            rw [hs] at ihd
            rw [up_up, nb_1]
            simpa using ihd
  · simp (disch := omega) only [wY_close_2, jl_0, jl_1, jl_2, jl_3, jl_4, jl_5, jl_6, jl_7, jl_8, jl_9, jl_12, jl_13, jl_16, jl_24, jl_25, jl_50, jl_168, jl_169, jl_624, jl_625, jl_1000, jI_add, jI_sub, jI_mul, jI_neg, jI_div, ie_mod, jI_leT, jI_leF, jI_ltT, jI_ltF, jI_eqT, jI_eqF, jI_cl, jI_inT, forall_eq, true_implies, false_implies, implies_true, not_true_eq_false, not_false_eq_true, true_and, and_true, b2_0, b2_z, hM, b2_nar]
    rw [fl_S _ _ h0 rfl]; exact ih
end
end
section
/-! ===== the path ===== -/
def xc (f : Int → Bool) : Nat → Bool
  | 0 => false
  | n + 1 => xc f n ^^ f (n : Int)
theorem xc_s (f : Int → Bool) {i : Int} (h : 0 ≤ i) : xc f (i + 1).toNat = (xc f i.toNat ^^ f i) := by
  rw [show (i + 1).toNat = i.toNat + 1 by omega]
  show (xc f i.toNat ^^ f ((i.toNat : Nat) : Int)) = _
  rw [show ((i.toNat : Nat) : Int) = i by omega]
theorem xc_c {f g : Int → Bool} : ∀ n : Nat, (∀ i : Int, 0 ≤ i → i < n → f i = g i) → xc f n = xc g n := by
  intro n
  induction n with
  | zero => intro _; rfl
  | succ n ih =>
    intro h
    show (xc f n ^^ f n) = (xc g n ^^ g n)
    rw [ih (fun i h0 h1 => h i h0 (by omega)), h n (by omega) (by omega)]
theorem ac_c {f g : Int → Bool} (a : Bool) : ∀ n : Nat, (∀ i : Int, 0 ≤ i → i < n → f i = g i) → ac f a n = ac g a n := by
  intro n
  induction n with
  | zero => intro _; rfl
  | succ n ih =>
    intro h
    show (ac f a n || f n) = (ac g a n || g n)
    rw [ih (fun i h0 h1 => h i h0 (by omega)), h n (by omega) (by omega)]
def stp (xs ys : Int → Int) (k i j : Int) : Bool :=
  decide ((2 * xs k ≤ i ∧ i ≤ 2 * xs (k + 1) ∨ 2 * xs (k + 1) ≤ i ∧ i ≤ 2 * xs k) ∧ (2 * ys k ≤ j ∧ j ≤ 2 * ys (k + 1) ∨ 2 * ys (k + 1) ≤ j ∧ j ≤ 2 * ys k))
def onP (xs ys : Int → Int) (m : Int) (i j : Int) : Bool := ac (fun k => stp xs ys k i j) (decide (i = 2 * xs 0 ∧ j = 2 * ys 0)) m.toNat
def pst (xs ys : Int → Int) (k i j : Int) : Bool := decide (xs k = xs (k + 1) ∧ i = 2 * xs k) && stp xs ys k i j
def psd (xs ys : Int → Int) (m : Int) (i j : Int) : Bool := xc (fun k => pst xs ys k i j) m.toNat
def RP (c : Int) (xs ys : Int → Int) (drawn passed crn px py : Nat → Int32) : Prop :=
  0 ≤ c ∧ c ≤ 24 ∧
  (∀ k : Int, 0 ≤ k → k < c → 0 ≤ xs k ∧ xs k ≤ 12 ∧ 0 ≤ ys k ∧ ys k ≤ 12 ∧ crn (2 * k).toNat = jI (xs k) ∧ crn (2 * k + 1).toNat = jI (ys k) ∧ px k.toNat = jI (xs k) ∧ py k.toNat = jI (ys k)) ∧
  (1 ≤ c → (∀ j : Int, 0 ≤ j → j < 25 → drawn j.toNat = wd (fun i => onP xs ys (c - 1) i j)) ∧ (∀ j : Int, 0 ≤ j → j < 25 → j % 2 = 1 → passed j.toNat = wd (fun i => psd xs ys (c - 1) i j)))
def RC (L : Int → Int → Int → Bool) (c : Int) (xs ys : Int → Int) (rows drawn passed crn lys px py : Nat → Int32) : Prop :=
  RX L rows ∧ RY L lys ∧ RO L ∧ (∀ l : Int, Cl (L l)) ∧ RP c xs ys drawn passed crn px py
/-- one content of the layers and one path for both -/
def i_Rel (_ : Nat) (u : SX) (v : SY) : Prop :=
  match u, v with
  | (fc, _, rows, drawn, passed, _, _, crn, _, _, _, _, _, _), (cy, lys, _, _, _, px, py, _) =>
    ∃ (L : Int → Int → Int → Bool) (c : Int) (xs ys : Int → Int), fc = jI c ∧ cy = jI c ∧ RC L c xs ys rows drawn passed crn lys px py
theorem i_up {k : Nat} {u : SX} {v : SY} (h : i_Rel k u v) : i_Rel (k + 5) u v := h
section
variable {bd : Int32} {rows drawn passed work inner crn rfr rto par cel opn rst lys fil mad st px py lab : Nat → Int32}
theorem rl_mk {k : Nat} {L : Int → Int → Int → Bool} {c : Int} {xs ys : Int → Int} (h : RC L c xs ys rows drawn passed crn lys px py) : i_Rel k (jI c, bd, rows, drawn, passed, work, inner, crn, rfr, rto, par, cel, opn, rst) (jI c, lys, fil, mad, st, px, py, lab) :=
  ⟨L, c, xs, ys, rfl, rfl, h⟩
end
theorem rl_el {P : SX → SY → Prop} {k : Nat} {u : SX} {v : SY}
    (h : ∀ (L : Int → Int → Int → Bool) (c : Int) (xs ys : Int → Int) (bd : Int32) (rows drawn passed work inner crn rfr rto par cel opn rst lys fil mad st px py lab : Nat → Int32),
      RC L c xs ys rows drawn passed crn lys px py → P (jI c, bd, rows, drawn, passed, work, inner, crn, rfr, rto, par, cel, opn, rst) (jI c, lys, fil, mad, st, px, py, lab)) (I : i_Rel k u v) : P u v := by
  obtain ⟨fc, bd, rows, drawn, passed, work, inner, crn, rfr, rto, par, cel, opn, rst⟩ := u
  obtain ⟨cy, lys, fil, mad, st, px, py, lab⟩ := v
  obtain ⟨L, c, xs, ys, e1, e2, hR⟩ := I
  subst e1
  subst e2
  exact h L c xs ys bd rows drawn passed work inner crn rfr rto par cel opn rst lys fil mad st px py lab hR
/-! ===== one layer set anew ===== -/
def Ls (L : Int → Int → Int → Bool) (l : Int) (M : Int → Int → Bool) : Int → Int → Int → Bool := fun l' i j => if l' = l then M i j else L l' i j
theorem ls_x {L : Int → Int → Int → Bool} {rows : Nat → Int32} (h : RX L rows) {l : Int} (hl : 0 ≤ l ∧ l < 6) {M : Int → Int → Bool} {g : Int → Int32} (hg : ∀ j : Int, 0 ≤ j → j < 25 → g j = wd (fun i => M i j)) :
    RX (Ls L l M) (wr rows (25 * l) 25 g) := by
  intro l' j a b d e
  by_cases z : l' = l
  · subst z
    rw [wr_r (by omega), hg j d e]
    refine wd_c (fun i _ _ => ?_)
    unfold Ls
    rw [if_pos rfl]
  · rw [wr_o (by omega), h l' j a b d e]
    refine wd_c (fun i _ _ => ?_)
    unfold Ls
    rw [if_neg z]
theorem ls_y {L : Int → Int → Int → Bool} {lys : Nat → Int32} (h : RY L lys) {l : Int} (hl : 0 ≤ l ∧ l < 6) {M : Int → Int → Bool} {g : Int → Int32} (hg : ∀ n : Int, 0 ≤ n → n < 625 → g n = b2 (M (n / 25) (n % 25))) :
    RY (Ls L l M) (wr lys (625 * l) 625 g) := by
  intro l' i j a b d e f k
  by_cases z : l' = l
  · subst z
    rw [show 625 * l' + 25 * i + j = 625 * l' + (25 * i + j) by omega, wr_r (by omega), hg _ (by omega) (by omega)]
    unfold Ls
    rw [if_pos rfl, show (25 * i + j) / 25 = i by omega, show (25 * i + j) % 25 = j by omega]
  · rw [wr_o (by omega), h l' i j a b d e f k]
    unfold Ls
    rw [if_neg z]
theorem ls_o {L : Int → Int → Int → Bool} (h : RO L) {l : Int} {M : Int → Int → Bool} (hM : SO M) : RO (Ls L l M) := by
  intro l' i j hij
  unfold Ls
  by_cases z : l' = l
  · rw [if_pos z]; exact hM i j hij
  · rw [if_neg z]; exact h l' i j hij
theorem ls_c {L : Int → Int → Int → Bool} (h : ∀ l, Cl (L l)) {l : Int} {M : Int → Int → Bool} (hM : Cl M) : ∀ l', Cl (Ls L l M l') := by
  intro l'
  by_cases z : l' = l
  · have : Ls L l M l' = M := by funext i j; unfold Ls; rw [if_pos z]
    rw [this]; exact hM
  · have : Ls L l M l' = L l' := by funext i j; unfold Ls; rw [if_neg z]
    rw [this]; exact h l'
theorem ls_rc {L : Int → Int → Int → Bool} {c : Int} {xs ys : Int → Int} {rows drawn passed crn lys px py : Nat → Int32} (h : RC L c xs ys rows drawn passed crn lys px py) {l : Int} (hl : 0 ≤ l ∧ l < 6)
    {M : Int → Int → Bool} (hO : SO M) (hC : Cl M) {g g' : Int → Int32} (hg : ∀ j : Int, 0 ≤ j → j < 25 → g j = wd (fun i => M i j)) (hg' : ∀ n : Int, 0 ≤ n → n < 625 → g' n = b2 (M (n / 25) (n % 25))) :
    RC (Ls L l M) c xs ys (wr rows (25 * l) 25 g) drawn passed crn (wr lys (625 * l) 625 g') px py :=
  ⟨ls_x h.1 hl hg, ls_y h.2.1 hl hg', ls_o h.2.2.1 hO, ls_c h.2.2.2.1 hC, h.2.2.2.2⟩
theorem i_vc0 : wpX_init (fun u => wpY_init (fun v => i_Rel 0 u v)) := by
  unfold wpX_init wpY_init
  refine ⟨fun _ _ _ => false, 0, fun _ => 0, fun _ => 0, rfl, rfl, ?_, ?_, ?_, ?_, ?_⟩
  · intro l j _ _ _ _; exact wd_0
  · intro l i j _ _ _ _ _ _; rfl
  · intro l i j _; rfl
  · intro l i j h; cases h
  · exact ⟨by omega, by omega, fun k h0 h1 => by omega, fun h => by omega⟩
end
section
/-! ===== point, combine, covers, part ===== -/
theorem cl_or {A B : Int → Int → Bool} (hA : Cl A) (hB : Cl B) : Cl (fun i j => A i j || B i j) := by
  intro i j h
  simp only [Bool.or_eq_true] at h
  simp only [Bool.or_eq_true]
  rcases h with h | h
  · have := hA i j h
    exact ⟨fun z => ⟨Or.inl (this.1 z).1, Or.inl (this.1 z).2⟩, fun z => ⟨Or.inl (this.2 z).1, Or.inl (this.2 z).2⟩⟩
  · have := hB i j h
    exact ⟨fun z => ⟨Or.inr (this.1 z).1, Or.inr (this.1 z).2⟩, fun z => ⟨Or.inr (this.2 z).1, Or.inr (this.2 z).2⟩⟩
theorem ix_3 {l i j l' i' j' : Int} (hi : 0 ≤ i ∧ i < 25) (hj : 0 ≤ j ∧ j < 25) (hi' : 0 ≤ i' ∧ i' < 25) (hj' : 0 ≤ j' ∧ j' < 25) (h : 625 * l + 25 * i + j = 625 * l' + 25 * i' + j') : l = l' ∧ i = i' ∧ j = j' := by
  have e1 : (625 * l + 25 * i + j) / 25 = 25 * l + i := by omega
  have e2 : (625 * l' + 25 * i' + j') / 25 = 25 * l' + i' := by omega
  rw [h, e2] at e1
  have e3 : (25 * l + i) / 25 = l := by omega
  have e4 : (25 * l' + i') / 25 = l' := by omega
  rw [e1, e3] at e4
  subst e4
  have : i = i' := by omega
  subst this
  exact ⟨rfl, rfl, by omega⟩
theorem i_vc_point {k : Nat} {u : SX} {v : SY} (I : i_Rel k u v) (hk : k + 5 ≤ 2560) (v1 : Int32) (v2 : Int32) (v3 : Int32) : wpX_point (fun r u' => wpY_point (fun r' v' => r' = r ∧ i_Rel (k + 5) u' v') v v1 v2 v3) u v1 v2 v3 := by
  refine rl_el (P := fun u v => wpX_point (fun r u' => wpY_point (fun r' v' => r' = r ∧ i_Rel (k + 5) u' v') v v1 v2 v3) u v1 v2 v3) ?_ I
  intro L c xs ys bd rows drawn passed work inner crn rfr rto par cel opn rst lys fil mad st px py lab hR
  obtain ⟨l, l1, l2, rfl⟩ := jI_ex v1
  obtain ⟨x, x1, x2, rfl⟩ := jI_ex v2
  obtain ⟨y, y1, y2, rfl⟩ := jI_ex v3
  by_cases hl : 0 ≤ l ∧ l < 6
  · by_cases hr : 0 ≤ x ∧ x < 13 ∧ 0 ≤ y ∧ y < 13
    · have e := hR.1 l (2 * y) hl.1 hl.2 (by omega) (by omega)
      simp (disch := omega) only [wpX_point, wpY_point, xx_lay, xx_rng, yy_lay, yy_rng, jl_0, jl_1, jl_2, jl_3, jl_4, jl_5, jl_6, jl_7, jl_8, jl_9, jl_12, jl_13, jl_16, jl_24, jl_25, jl_50, jl_168, jl_169, jl_624, jl_625, jl_1000, jI_add, jI_sub, jI_mul, jI_neg, jI_div, ie_mod, jI_leT, jI_leF, jI_ltT, jI_ltF, jI_eqT, jI_eqF, jI_cl, jI_inT, forall_eq, true_implies, false_implies, implies_true, not_true_eq_false, not_false_eq_true, true_and, and_true, b2_0, b2_z, e, wd_and, wd_or, wd_xor, wd_notJ, wd_shl, wd_shr, wd_ushr, wd_one, wd_mA, wd_m5, wd_mF, nb_1]
      refine rl_mk (L := fun l' i j => L l' i j || (decide (l' = l ∧ i = 2 * x ∧ j = 2 * y))) ⟨?_, ?_, ?_, ?_, hR.2.2.2.2⟩
      · intro l' j a b d f
        by_cases z : l' = l ∧ j = 2 * y
        · obtain ⟨rfl, rfl⟩ := z
          rw [up_s]
          refine wd_c (fun i _ _ => ?_)
          congr 1
          exact decide_eq_decide.mpr (by omega)
        · rw [up_n (by omega), hR.1 l' j a b d f]
          refine wd_c (fun i _ _ => ?_)
          show L l' i j = (L l' i j || decide (l' = l ∧ i = 2 * x ∧ j = 2 * y))
          rw [decide_eq_false (by omega), Bool.or_false]
      · intro l' i j a b d f g m
        show _ = b2 (L l' i j || decide (l' = l ∧ i = 2 * x ∧ j = 2 * y))
        by_cases z : l' = l ∧ i = 2 * x ∧ j = 2 * y
        · obtain ⟨rfl, rfl, rfl⟩ := z
          rw [show 625 * l' + 25 * (2 * x) + 2 * y = 625 * l' + 50 * x + 2 * y by omega, up_s, decide_eq_true (by omega), Bool.or_true]
        · have hne : ¬ 625 * l' + 25 * i + j = 625 * l + 25 * (2 * x) + 2 * y := fun zz => z (ix_3 ⟨d, f⟩ ⟨g, m⟩ (by omega) (by omega) zz)
          rw [up_n (by omega), hR.2.1 l' i j a b d f g m, decide_eq_false z, Bool.or_false]
      · intro l' i j h
        show (L l' i j || decide (l' = l ∧ i = 2 * x ∧ j = 2 * y)) = false
        rw [hR.2.2.1 l' i j h, decide_eq_false (by omega)]; rfl
      · intro l'
        refine cl_or (hR.2.2.2.1 l') (fun i j h => ?_)
        have := of_decide_eq_true h
        exact ⟨fun z => by omega, fun z => by omega⟩
    · simp (disch := omega) only [wpX_point, wpY_point, xx_lay, xx_rngF, yy_lay, yy_rngF, jl_0, jl_1, jl_2, jl_3, jl_4, jl_5, jl_6, jl_7, jl_8, jl_9, jl_12, jl_13, jl_16, jl_24, jl_25, jl_50, jl_168, jl_169, jl_624, jl_625, jl_1000, jI_add, jI_sub, jI_mul, jI_neg, jI_div, ie_mod, jI_leT, jI_leF, jI_ltT, jI_ltF, jI_eqT, jI_eqF, jI_cl, jI_inT, forall_eq, true_implies, false_implies, implies_true, not_true_eq_false, not_false_eq_true, true_and, and_true, b2_0, b2_z]
      exact rl_mk hR
  · simp (disch := omega) only [wpX_point, wpY_point, xx_layF, yy_layF, jl_0, jl_1, jl_2, jl_3, jl_4, jl_5, jl_6, jl_7, jl_8, jl_9, jl_12, jl_13, jl_16, jl_24, jl_25, jl_50, jl_168, jl_169, jl_624, jl_625, jl_1000, jI_add, jI_sub, jI_mul, jI_neg, jI_div, ie_mod, jI_leT, jI_leF, jI_ltT, jI_ltF, jI_eqT, jI_eqF, jI_cl, jI_inT, forall_eq, true_implies, false_implies, implies_true, not_true_eq_false, not_false_eq_true, true_and, and_true, b2_0, b2_z]
    exact rl_mk hR
theorem i_vc_combine {k : Nat} {u : SX} {v : SY} (I : i_Rel k u v) (hk : k + 5 ≤ 2560) (v1 : Int32) (v2 : Int32) (v3 : Int32) (v4 : Int32) : wpX_combine (fun r u' => wpY_combine (fun r' v' => r' = r ∧ i_Rel (k + 5) u' v') v v1 v2 v3 v4) u v1 v2 v3 v4 := by
  refine rl_el (P := fun u v => wpX_combine (fun r u' => wpY_combine (fun r' v' => r' = r ∧ i_Rel (k + 5) u' v') v v1 v2 v3 v4) u v1 v2 v3 v4) ?_ I
  intro L c xs ys bd rows drawn passed work inner crn rfr rto par cel opn rst lys fil mad st px py lab hR
  obtain ⟨op, p1, p2, rfl⟩ := jI_ex v1
  obtain ⟨a, a1, a2, rfl⟩ := jI_ex v2
  obtain ⟨b, b1, b2', rfl⟩ := jI_ex v3
  obtain ⟨t, t1, t2, rfl⟩ := jI_ex v4
  by_cases ho : 0 ≤ op ∧ op ≤ 3
  · by_cases ha : 0 ≤ a ∧ a < 6
    · by_cases hb : 0 ≤ b ∧ b < 6
      · by_cases ht : 0 ≤ t ∧ t < 6
        · have hS : SO (fun i j => mx op (L a i j) (L b i j)) := by
            intro i j h
            show mx op (L a i j) (L b i j) = false
            rw [hR.2.2.1 a i j h, hR.2.2.1 b i j h]
            unfold mx
            repeat' split
            all_goals rfl
          simp (disch := omega) only [wpX_combine, xx_lay, jl_0, jl_1, jl_2, jl_3, jl_4, jl_5, jl_6, jl_7, jl_8, jl_9, jl_12, jl_13, jl_16, jl_24, jl_25, jl_50, jl_168, jl_169, jl_624, jl_625, jl_1000, jI_add, jI_sub, jI_mul, jI_neg, jI_div, ie_mod, jI_leT, jI_leF, jI_ltT, jI_ltF, jI_eqT, jI_eqF, jI_cl, jI_inT, forall_eq, true_implies, false_implies, implies_true, not_true_eq_false, not_false_eq_true, true_and, and_true, b2_0, b2_z]
          refine lj_a (fun n i s => wX_combine_36 _ (jI op) (jI a) (jI b) (jI t) (jI c) bd n (jI i) rows drawn passed s inner crn rfr rto par cel opn rst) (fun i => fl work i (fun j => wd (fun i => mx op (L a i j) (L b i j)))) 0 25 (fl_0 _ _).symm (by omega) (fun n => ?_) (fun n i h0 h1 ih => ?_)
          · simp (disch := omega) only [wX_combine_36, jl_0, jl_1, jl_2, jl_3, jl_4, jl_5, jl_6, jl_7, jl_8, jl_9, jl_12, jl_13, jl_16, jl_24, jl_25, jl_50, jl_168, jl_169, jl_624, jl_625, jl_1000, jI_add, jI_sub, jI_mul, jI_neg, jI_div, ie_mod, jI_leT, jI_leF, jI_ltT, jI_ltF, jI_eqT, jI_eqF, jI_cl, jI_inT, forall_eq, true_implies, false_implies, implies_true, not_true_eq_false, not_false_eq_true, true_and, and_true, b2_0, b2_z]
            refine xx_close (S := fun i j => mx op (L a i j) (L b i j)) (fun j j0 j1 => fl_r (by omega)) hS ?_
            dsimp only
            refine xx_keep ht ?_
            dsimp only
            simp (disch := omega) only [wpY_combine, yy_lay, jl_0, jl_1, jl_2, jl_3, jl_4, jl_5, jl_6, jl_7, jl_8, jl_9, jl_12, jl_13, jl_16, jl_24, jl_25, jl_50, jl_168, jl_169, jl_624, jl_625, jl_1000, jI_add, jI_sub, jI_mul, jI_neg, jI_div, ie_mod, jI_leT, jI_leF, jI_ltT, jI_ltF, jI_eqT, jI_eqF, jI_cl, jI_inT, forall_eq, true_implies, false_implies, implies_true, not_true_eq_false, not_false_eq_true, true_and, and_true, b2_0, b2_z]
            refine lj_a (fun n i s => wY_combine_39 _ (jI op) (jI a) (jI b) (jI t) (jI c) n (jI i) lys fil s st px py lab) (fun i => fl mad i (fun n => b2 (mx op (L a (n / 25) (n % 25)) (L b (n / 25) (n % 25))))) 0 625 (fl_0 _ _).symm (by omega) (fun n => ?_) (fun n i h0 h1 ih => ?_)
            · simp (disch := omega) only [wY_combine_39, jl_0, jl_1, jl_2, jl_3, jl_4, jl_5, jl_6, jl_7, jl_8, jl_9, jl_12, jl_13, jl_16, jl_24, jl_25, jl_50, jl_168, jl_169, jl_624, jl_625, jl_1000, jI_add, jI_sub, jI_mul, jI_neg, jI_div, ie_mod, jI_leT, jI_leF, jI_ltT, jI_ltF, jI_eqT, jI_eqF, jI_cl, jI_inT, forall_eq, true_implies, false_implies, implies_true, not_true_eq_false, not_false_eq_true, true_and, and_true, b2_0, b2_z]
              refine yy_close (S := fun i j => mx op (L a i j) (L b i j)) (fun j j0 j1 => fl_r (by omega)) hS (fun st' => ?_)
              dsimp only
              refine yy_keep ht (fun n => clo (fun i j => mx op (L a i j) (L b i j)) (n / 25) (n % 25)) (fun n n0 n1 => fl_r (by omega)) ?_
              dsimp only
              exact rl_mk (ls_rc hR ht (clo_o hS) (clo_cl _) (fun j j0 j1 => fl_r ⟨j0, j1⟩) (fun n _ _ => rfl))
            · simp (disch := omega) only [wY_combine_39, jl_0, jl_1, jl_2, jl_3, jl_4, jl_5, jl_6, jl_7, jl_8, jl_9, jl_12, jl_13, jl_16, jl_24, jl_25, jl_50, jl_168, jl_169, jl_624, jl_625, jl_1000, jI_add, jI_sub, jI_mul, jI_neg, jI_div, ie_mod, jI_leT, jI_leF, jI_ltT, jI_ltF, jI_eqT, jI_eqF, jI_cl, jI_inT, forall_eq, true_implies, false_implies, implies_true, not_true_eq_false, not_false_eq_true, true_and, and_true, b2_0, b2_z, ry_n hR.2.1, yy_comb, b2_nar]
              rw [fl_S _ _ h0 rfl]; exact ih
          · simp (disch := omega) only [wX_combine_36, jl_0, jl_1, jl_2, jl_3, jl_4, jl_5, jl_6, jl_7, jl_8, jl_9, jl_12, jl_13, jl_16, jl_24, jl_25, jl_50, jl_168, jl_169, jl_624, jl_625, jl_1000, jI_add, jI_sub, jI_mul, jI_neg, jI_div, ie_mod, jI_leT, jI_leF, jI_ltT, jI_ltF, jI_eqT, jI_eqF, jI_cl, jI_inT, forall_eq, true_implies, false_implies, implies_true, not_true_eq_false, not_false_eq_true, true_and, and_true, b2_0, b2_z, hR.1 a i, hR.1 b i, xx_mix]
            rw [fl_S _ _ h0 rfl]; exact ih
        · simp (disch := omega) only [wpX_combine, wpY_combine, xx_lay, xx_layF, yy_lay, yy_layF, jl_0, jl_1, jl_2, jl_3, jl_4, jl_5, jl_6, jl_7, jl_8, jl_9, jl_12, jl_13, jl_16, jl_24, jl_25, jl_50, jl_168, jl_169, jl_624, jl_625, jl_1000, jI_add, jI_sub, jI_mul, jI_neg, jI_div, ie_mod, jI_leT, jI_leF, jI_ltT, jI_ltF, jI_eqT, jI_eqF, jI_cl, jI_inT, forall_eq, true_implies, false_implies, implies_true, not_true_eq_false, not_false_eq_true, true_and, and_true, b2_0, b2_z]
          exact rl_mk hR
      · simp (disch := omega) only [wpX_combine, wpY_combine, xx_lay, xx_layF, yy_lay, yy_layF, jl_0, jl_1, jl_2, jl_3, jl_4, jl_5, jl_6, jl_7, jl_8, jl_9, jl_12, jl_13, jl_16, jl_24, jl_25, jl_50, jl_168, jl_169, jl_624, jl_625, jl_1000, jI_add, jI_sub, jI_mul, jI_neg, jI_div, ie_mod, jI_leT, jI_leF, jI_ltT, jI_ltF, jI_eqT, jI_eqF, jI_cl, jI_inT, forall_eq, true_implies, false_implies, implies_true, not_true_eq_false, not_false_eq_true, true_and, and_true, b2_0, b2_z]
        exact rl_mk hR
    · simp (disch := omega) only [wpX_combine, wpY_combine, xx_lay, xx_layF, yy_lay, yy_layF, jl_0, jl_1, jl_2, jl_3, jl_4, jl_5, jl_6, jl_7, jl_8, jl_9, jl_12, jl_13, jl_16, jl_24, jl_25, jl_50, jl_168, jl_169, jl_624, jl_625, jl_1000, jI_add, jI_sub, jI_mul, jI_neg, jI_div, ie_mod, jI_leT, jI_leF, jI_ltT, jI_ltF, jI_eqT, jI_eqF, jI_cl, jI_inT, forall_eq, true_implies, false_implies, implies_true, not_true_eq_false, not_false_eq_true, true_and, and_true, b2_0, b2_z]
      exact rl_mk hR
  · by_cases h0 : op < 0
    · simp (disch := omega) only [wpX_combine, wpY_combine, jl_0, jl_1, jl_2, jl_3, jl_4, jl_5, jl_6, jl_7, jl_8, jl_9, jl_12, jl_13, jl_16, jl_24, jl_25, jl_50, jl_168, jl_169, jl_624, jl_625, jl_1000, jI_add, jI_sub, jI_mul, jI_neg, jI_div, ie_mod, jI_leT, jI_leF, jI_ltT, jI_ltF, jI_eqT, jI_eqF, jI_cl, jI_inT, forall_eq, true_implies, false_implies, implies_true, not_true_eq_false, not_false_eq_true, true_and, and_true, b2_0, b2_z]
      exact rl_mk hR
    · simp (disch := omega) only [wpX_combine, wpY_combine, jl_0, jl_1, jl_2, jl_3, jl_4, jl_5, jl_6, jl_7, jl_8, jl_9, jl_12, jl_13, jl_16, jl_24, jl_25, jl_50, jl_168, jl_169, jl_624, jl_625, jl_1000, jI_add, jI_sub, jI_mul, jI_neg, jI_div, ie_mod, jI_leT, jI_leF, jI_ltT, jI_ltF, jI_eqT, jI_eqF, jI_cl, jI_inT, forall_eq, true_implies, false_implies, implies_true, not_true_eq_false, not_false_eq_true, true_and, and_true, b2_0, b2_z]
      exact rl_mk hR
end
section
theorem i_vc_covers {k : Nat} {u : SX} {v : SY} (I : i_Rel k u v) (hk : k + 5 ≤ 2560) (v1 : Int32) (v2 : Int32) : wpX_covers (fun r => wpY_covers (fun r' => r' = r ∧ i_Rel (k + 5) u v) v v1 v2) u v1 v2 := by
  refine rl_el (P := fun u v => wpX_covers (fun r => wpY_covers (fun r' => r' = r ∧ i_Rel (k + 5) u v) v v1 v2) u v1 v2) ?_ I
  intro L c xs ys bd rows drawn passed work inner crn rfr rto par cel opn rst lys fil mad st px py lab hR
  obtain ⟨a, a1, a2, rfl⟩ := jI_ex v1
  obtain ⟨b, b1, b2', rfl⟩ := jI_ex v2
  have hI : i_Rel (k + 5) (jI c, bd, rows, drawn, passed, work, inner, crn, rfr, rto, par, cel, opn, rst) (jI c, lys, fil, mad, st, px, py, lab) := rl_mk hR
  clear I
  generalize i_Rel (k + 5) (jI c, bd, rows, drawn, passed, work, inner, crn, rfr, rto, par, cel, opn, rst) (jI c, lys, fil, mad, st, px, py, lab) = R at hI
  by_cases ha : 0 ≤ a ∧ a < 6
  · by_cases hb : 0 ≤ b ∧ b < 6
    · simp (disch := omega) only [wpX_covers, xx_lay, jl_0, jl_1, jl_2, jl_3, jl_4, jl_5, jl_6, jl_7, jl_8, jl_9, jl_12, jl_13, jl_16, jl_24, jl_25, jl_50, jl_168, jl_169, jl_624, jl_625, jl_1000, jI_add, jI_sub, jI_mul, jI_neg, jI_div, ie_mod, jI_leT, jI_leF, jI_ltT, jI_ltF, jI_eqT, jI_eqF, jI_cl, jI_inT, forall_eq, true_implies, false_implies, implies_true, not_true_eq_false, not_false_eq_true, true_and, and_true, b2_0, b2_z]
      refine lj_a (fun n j s => wX_covers_21 _ (jI a) (jI b) (jI c) bd rows drawn passed work inner crn rfr rto par cel opn rst n s (jI j)) (fun j => wd (fun i => ac (fun j' => L b i j' && !L a i j') false j.toNat)) 0 25 wd_J0 (by omega) (fun n => ?_) (fun n j h0 h1 ih => ?_)
      · simp (disch := omega) only [wX_covers_21, jl_0, jl_1, jl_2, jl_3, jl_4, jl_5, jl_6, jl_7, jl_8, jl_9, jl_12, jl_13, jl_16, jl_24, jl_25, jl_50, jl_168, jl_169, jl_624, jl_625, jl_1000, jI_add, jI_sub, jI_mul, jI_neg, jI_div, ie_mod, jI_leT, jI_leF, jI_ltT, jI_ltF, jI_eqT, jI_eqF, jI_cl, jI_inT, forall_eq, true_implies, false_implies, implies_true, not_true_eq_false, not_false_eq_true, true_and, and_true, b2_0, b2_z]
        refine br_c (fun h => ?_) (fun h => ?_)
        · rw [wd_eq0] at h
          have hq : ∀ i j : Int, 0 ≤ i → i < 25 → 0 ≤ j → j < 25 → L b i j = true → L a i j = true := by
            intro i j i0 i1 j0 j1 hL
            cases e : L a i j with
            | true => rfl
            | false =>
              have := (ac_t (fun j' => L b i j' && !L a i j') false (25 : Int).toNat).mpr (Or.inr ⟨j, j0, by omega, by rw [hL, e]; rfl⟩)
              rw [h i i0 (by omega)] at this
              cases this
          simp (disch := omega) only [wpY_covers, yy_lay, jl_0, jl_1, jl_2, jl_3, jl_4, jl_5, jl_6, jl_7, jl_8, jl_9, jl_12, jl_13, jl_16, jl_24, jl_25, jl_50, jl_168, jl_169, jl_624, jl_625, jl_1000, jI_add, jI_sub, jI_mul, jI_neg, jI_div, ie_mod, jI_leT, jI_leF, jI_ltT, jI_ltF, jI_eqT, jI_eqF, jI_cl, jI_inT, forall_eq, true_implies, false_implies, implies_true, not_true_eq_false, not_false_eq_true, true_and, and_true, b2_0, b2_z]
          refine lj_a (fun n i (_ : Unit) => wY_covers_20 _ (jI a) (jI b) (jI c) lys fil mad st px py lab n (jI i)) (fun _ => ()) 0 625 rfl (by omega) (fun n => ?_) (fun n i h0 h1 ih => ?_)
          · simp (disch := omega) only [wY_covers_20, jl_0, jl_1, jl_2, jl_3, jl_4, jl_5, jl_6, jl_7, jl_8, jl_9, jl_12, jl_13, jl_16, jl_24, jl_25, jl_50, jl_168, jl_169, jl_624, jl_625, jl_1000, jI_add, jI_sub, jI_mul, jI_neg, jI_div, ie_mod, jI_leT, jI_leF, jI_ltT, jI_ltF, jI_eqT, jI_eqF, jI_cl, jI_inT, forall_eq, true_implies, false_implies, implies_true, not_true_eq_false, not_false_eq_true, true_and, and_true, b2_0, b2_z]; exact hI
          · simp (disch := omega) only [wY_covers_20, jl_0, jl_1, jl_2, jl_3, jl_4, jl_5, jl_6, jl_7, jl_8, jl_9, jl_12, jl_13, jl_16, jl_24, jl_25, jl_50, jl_168, jl_169, jl_624, jl_625, jl_1000, jI_add, jI_sub, jI_mul, jI_neg, jI_div, ie_mod, jI_leT, jI_leF, jI_ltT, jI_ltF, jI_eqT, jI_eqF, jI_cl, jI_inT, forall_eq, true_implies, false_implies, implies_true, not_true_eq_false, not_false_eq_true, true_and, and_true, b2_0, b2_z, ry_n hR.2.1]
            refine tf_c (fun _ => ih) (fun e => ?_)
            rw [hq _ _ (by omega) (by omega) (by omega) (by omega) e]
            exact br_f (by decide) ih
        · rw [wd_ne0] at h
          obtain ⟨i0, hi0, hi1, h⟩ := h
          rw [ac_t] at h
          rcases h with h | ⟨j0, hj0, hj1, h⟩
          · cases h
          · have hq : ∃ n0 : Int, 0 ≤ n0 ∧ n0 < 625 ∧ L b (n0 / 25) (n0 % 25) = true ∧ L a (n0 / 25) (n0 % 25) = false := by
              simp only [Bool.and_eq_true, Bool.not_eq_true'] at h
              have hi25 : i0 < 25 := by
                apply Classical.byContradiction
                intro z
                rw [hR.2.2.1 b i0 j0 (by omega)] at h
                cases h.1
              have hj25 : j0 < 25 := by omega
              refine ⟨25 * i0 + j0, by omega, by omega, ?_⟩
              rw [show (25 * i0 + j0) / 25 = i0 by omega, show (25 * i0 + j0) % 25 = j0 by omega]
              exact h
            obtain ⟨n0, m0, m1, hb1, ha1⟩ := hq
            simp (disch := omega) only [wpY_covers, yy_lay, jl_0, jl_1, jl_2, jl_3, jl_4, jl_5, jl_6, jl_7, jl_8, jl_9, jl_12, jl_13, jl_16, jl_24, jl_25, jl_50, jl_168, jl_169, jl_624, jl_625, jl_1000, jI_add, jI_sub, jI_mul, jI_neg, jI_div, ie_mod, jI_leT, jI_leF, jI_ltT, jI_ltF, jI_eqT, jI_eqF, jI_cl, jI_inT, forall_eq, true_implies, false_implies, implies_true, not_true_eq_false, not_false_eq_true, true_and, and_true, b2_0, b2_z]
            refine lj_i (fun n i (_ : Unit) => wY_covers_20 _ (jI a) (jI b) (jI c) lys fil mad st px py lab n (jI i)) (fun i _ => i ≤ n0) 0 625 (s0 := ()) m0 (by omega) (fun n _ hh => absurd hh (by omega)) (fun n i _ h0 h1 hh ih => ?_)
            simp (disch := omega) only [wY_covers_20, jl_0, jl_1, jl_2, jl_3, jl_4, jl_5, jl_6, jl_7, jl_8, jl_9, jl_12, jl_13, jl_16, jl_24, jl_25, jl_50, jl_168, jl_169, jl_624, jl_625, jl_1000, jI_add, jI_sub, jI_mul, jI_neg, jI_div, ie_mod, jI_leT, jI_leF, jI_ltT, jI_ltF, jI_eqT, jI_eqF, jI_cl, jI_inT, forall_eq, true_implies, false_implies, implies_true, not_true_eq_false, not_false_eq_true, true_and, and_true, b2_0, b2_z, ry_n hR.2.1]
            by_cases e : i = n0
            · subst e
              rw [hb1, ha1]
              exact br_f (by decide) (br_t rfl hI)
            · refine tf_c (fun _ => ih () (by omega)) (fun _ => tf_c (fun _ => hI) (fun _ => ih () (by omega)))
      · simp (disch := omega) only [wX_covers_21, jl_0, jl_1, jl_2, jl_3, jl_4, jl_5, jl_6, jl_7, jl_8, jl_9, jl_12, jl_13, jl_16, jl_24, jl_25, jl_50, jl_168, jl_169, jl_624, jl_625, jl_1000, jI_add, jI_sub, jI_mul, jI_neg, jI_div, ie_mod, jI_leT, jI_leF, jI_ltT, jI_ltF, jI_eqT, jI_eqF, jI_cl, jI_inT, forall_eq, true_implies, false_implies, implies_true, not_true_eq_false, not_false_eq_true, true_and, and_true, b2_0, b2_z, xx_row hR.1 hR.2.2.1, wd_and, wd_or, wd_notJ]
        simp only [ac_s _ _ h0] at ih
        exact ih
    · simp (disch := omega) only [wpX_covers, wpY_covers, xx_lay, xx_layF, yy_lay, yy_layF, jl_0, jl_1, jl_2, jl_3, jl_4, jl_5, jl_6, jl_7, jl_8, jl_9, jl_12, jl_13, jl_16, jl_24, jl_25, jl_50, jl_168, jl_169, jl_624, jl_625, jl_1000, jI_add, jI_sub, jI_mul, jI_neg, jI_div, ie_mod, jI_leT, jI_leF, jI_ltT, jI_ltF, jI_eqT, jI_eqF, jI_cl, jI_inT, forall_eq, true_implies, false_implies, implies_true, not_true_eq_false, not_false_eq_true, true_and, and_true, b2_0, b2_z]
      exact hI
  · simp (disch := omega) only [wpX_covers, wpY_covers, xx_layF, yy_layF, jl_0, jl_1, jl_2, jl_3, jl_4, jl_5, jl_6, jl_7, jl_8, jl_9, jl_12, jl_13, jl_16, jl_24, jl_25, jl_50, jl_168, jl_169, jl_624, jl_625, jl_1000, jI_add, jI_sub, jI_mul, jI_neg, jI_div, ie_mod, jI_leT, jI_leF, jI_ltT, jI_ltF, jI_eqT, jI_eqF, jI_cl, jI_inT, forall_eq, true_implies, false_implies, implies_true, not_true_eq_false, not_false_eq_true, true_and, and_true, b2_0, b2_z]
    exact hI
theorem i_vc_part {k : Nat} {u : SX} {v : SY} (I : i_Rel k u v) (hk : k + 5 ≤ 2560) (v1 : Int32) (v2 : Int32) (v3 : Int32) : wpX_part (fun r => wpY_part (fun r' => r' = r ∧ i_Rel (k + 5) u v) v v1 v2 v3) u v1 v2 v3 := by
  refine rl_el (P := fun u v => wpX_part (fun r => wpY_part (fun r' => r' = r ∧ i_Rel (k + 5) u v) v v1 v2 v3) u v1 v2 v3) ?_ I
  intro L c xs ys bd rows drawn passed work inner crn rfr rto par cel opn rst lys fil mad st px py lab hR
  obtain ⟨l, a1, a2, rfl⟩ := jI_ex v1
  obtain ⟨i, i1, i2, rfl⟩ := jI_ex v2
  obtain ⟨j, j1, j2, rfl⟩ := jI_ex v3
  have hI : i_Rel (k + 5) (jI c, bd, rows, drawn, passed, work, inner, crn, rfr, rto, par, cel, opn, rst) (jI c, lys, fil, mad, st, px, py, lab) := rl_mk hR
  clear I
  generalize i_Rel (k + 5) (jI c, bd, rows, drawn, passed, work, inner, crn, rfr, rto, par, cel, opn, rst) (jI c, lys, fil, mad, st, px, py, lab) = R at hI
  by_cases hl : 0 ≤ l ∧ l < 6
  · by_cases hi : 0 ≤ i ∧ i ≤ 24
    · by_cases hj : 0 ≤ j ∧ j ≤ 24
      · simp (disch := omega) only [wpX_part, wpY_part, xx_lay, yy_lay, yy_at, jl_0, jl_1, jl_2, jl_3, jl_4, jl_5, jl_6, jl_7, jl_8, jl_9, jl_12, jl_13, jl_16, jl_24, jl_25, jl_50, jl_168, jl_169, jl_624, jl_625, jl_1000, jI_add, jI_sub, jI_mul, jI_neg, jI_div, ie_mod, jI_leT, jI_leF, jI_ltT, jI_ltF, jI_eqT, jI_eqF, jI_cl, jI_inT, forall_eq, true_implies, false_implies, implies_true, not_true_eq_false, not_false_eq_true, true_and, and_true, b2_0, b2_z, xx_row hR.1 hR.2.2.1, xx_int hR.1 hR.2.2.1, wd_bit, yy_pt hR.2.1 hR.2.2.1]
        refine tf_c (fun e => ?_) (fun e => ?_)
        · rw [pt_2 e]; exact ⟨rfl, hI⟩
        · have h0 := pt_r (L l) i j
          have h1 := pt_lt e
          refine tf_c (fun e => ?_) (fun e => ?_)
          · have := of_decide_eq_false e
            exact ⟨congrArg jI (by omega), hI⟩
          · have := of_decide_eq_true e
            exact ⟨congrArg jI (by omega), hI⟩
      · by_cases h0 : j < 0
        · simp (disch := omega) only [wpX_part, wpY_part, xx_lay, yy_lay, yy_atF, jl_0, jl_1, jl_2, jl_3, jl_4, jl_5, jl_6, jl_7, jl_8, jl_9, jl_12, jl_13, jl_16, jl_24, jl_25, jl_50, jl_168, jl_169, jl_624, jl_625, jl_1000, jI_add, jI_sub, jI_mul, jI_neg, jI_div, ie_mod, jI_leT, jI_leF, jI_ltT, jI_ltF, jI_eqT, jI_eqF, jI_cl, jI_inT, forall_eq, true_implies, false_implies, implies_true, not_true_eq_false, not_false_eq_true, true_and, and_true, b2_0, b2_z]
          exact hI
        · simp (disch := omega) only [wpX_part, wpY_part, xx_lay, yy_lay, yy_atF, jl_0, jl_1, jl_2, jl_3, jl_4, jl_5, jl_6, jl_7, jl_8, jl_9, jl_12, jl_13, jl_16, jl_24, jl_25, jl_50, jl_168, jl_169, jl_624, jl_625, jl_1000, jI_add, jI_sub, jI_mul, jI_neg, jI_div, ie_mod, jI_leT, jI_leF, jI_ltT, jI_ltF, jI_eqT, jI_eqF, jI_cl, jI_inT, forall_eq, true_implies, false_implies, implies_true, not_true_eq_false, not_false_eq_true, true_and, and_true, b2_0, b2_z]
          exact hI
    · by_cases h0 : i < 0
      · simp (disch := omega) only [wpX_part, wpY_part, xx_lay, yy_lay, yy_atF, jl_0, jl_1, jl_2, jl_3, jl_4, jl_5, jl_6, jl_7, jl_8, jl_9, jl_12, jl_13, jl_16, jl_24, jl_25, jl_50, jl_168, jl_169, jl_624, jl_625, jl_1000, jI_add, jI_sub, jI_mul, jI_neg, jI_div, ie_mod, jI_leT, jI_leF, jI_ltT, jI_ltF, jI_eqT, jI_eqF, jI_cl, jI_inT, forall_eq, true_implies, false_implies, implies_true, not_true_eq_false, not_false_eq_true, true_and, and_true, b2_0, b2_z]
        exact hI
      · simp (disch := omega) only [wpX_part, wpY_part, xx_lay, yy_lay, yy_atF, jl_0, jl_1, jl_2, jl_3, jl_4, jl_5, jl_6, jl_7, jl_8, jl_9, jl_12, jl_13, jl_16, jl_24, jl_25, jl_50, jl_168, jl_169, jl_624, jl_625, jl_1000, jI_add, jI_sub, jI_mul, jI_neg, jI_div, ie_mod, jI_leT, jI_leF, jI_ltT, jI_ltF, jI_eqT, jI_eqF, jI_cl, jI_inT, forall_eq, true_implies, false_implies, implies_true, not_true_eq_false, not_false_eq_true, true_and, and_true, b2_0, b2_z]
        exact hI
  · simp (disch := omega) only [wpX_part, wpY_part, xx_layF, yy_layF, jl_0, jl_1, jl_2, jl_3, jl_4, jl_5, jl_6, jl_7, jl_8, jl_9, jl_12, jl_13, jl_16, jl_24, jl_25, jl_50, jl_168, jl_169, jl_624, jl_625, jl_1000, jI_add, jI_sub, jI_mul, jI_neg, jI_div, ie_mod, jI_leT, jI_leF, jI_ltT, jI_ltF, jI_eqT, jI_eqF, jI_cl, jI_inT, forall_eq, true_implies, false_implies, implies_true, not_true_eq_false, not_false_eq_true, true_and, and_true, b2_0, b2_z]
    exact hI
end
section
/-! ===== a Bool for any proposition ===== -/
noncomputable def ex (P : Prop) : Bool := @decide P (Classical.propDecidable P)
theorem ex_t {P : Prop} : ex P = true ↔ P := by
  unfold ex
  exact @decide_eq_true_iff P (Classical.propDecidable P)
theorem ex_T {P : Prop} (h : P) : ex P = true := ex_t.mpr h
theorem ex_F {P : Prop} (h : ¬ P) : ex P = false := by
  cases e : ex P with
  | false => rfl
  | true => exact absurd (ex_t.mp e) h
theorem ex_c {P Q : Prop} (h : P ↔ Q) : ex P = ex Q := by
  by_cases hp : P
  · rw [ex_T hp, ex_T (h.mp hp)]
  · rw [ex_F hp, ex_F (fun q => hp (h.mpr q))]
theorem ex_f {P : Prop} : ex P = false ↔ ¬ P := by
  constructor
  · intro h p; rw [ex_T p] at h; cases h
  · exact ex_F
theorem ex_or (P Q : Prop) : (ex P || ex Q) = ex (P ∨ Q) := by
  by_cases hp : P
  · rw [ex_T hp, ex_T (Or.inl hp), Bool.true_or]
  · rw [ex_F hp, Bool.false_or]; exact ex_c ⟨Or.inr, fun h => h.elim (fun z => absurd z hp) id⟩
theorem ex_and (P Q : Prop) : (ex P && ex Q) = ex (P ∧ Q) := by
  by_cases hp : P
  · rw [ex_T hp, Bool.true_and]; exact ex_c ⟨fun h => ⟨hp, h⟩, fun h => h.2⟩
  · rw [ex_F hp, Bool.false_and]; exact (ex_F (fun h => hp h.1)).symm
theorem ex_b (b : Bool) : b = ex (b = true) := by
  cases b
  · exact (ex_F (by decide)).symm
  · exact (ex_T rfl).symm
theorem ex_d {P : Prop} [Decidable P] : decide P = ex P := by
  by_cases hp : P
  · rw [ex_T hp, decide_eq_true hp]
  · rw [ex_F hp, decide_eq_false hp]
/-! ===== turning ===== -/
def tn (how : Int) (A : Int → Int → Bool) (i j : Int) : Bool := if how = 0 then A (24 - i) j else if how = 1 then A i (24 - j) else A j i
def tI (how m : Int) : Int := if how = 0 then 25 * (24 - m / 25) + m % 25 else if how = 1 then 25 * (m / 25) + 24 - m % 25 else 25 * (m % 25) + m / 25
theorem tI_r {how m : Int} (h : 0 ≤ m ∧ m < 625) : 0 ≤ tI how m ∧ tI how m < 625 := by
  unfold tI
  repeat' split
  all_goals omega
theorem tI_i {how m : Int} (h : 0 ≤ m ∧ m < 625) : tI how (tI how m) = m := by
  unfold tI
  by_cases h0 : how = 0
  · simp only [if_pos h0]; omega
  · by_cases h1 : how = 1
    · simp only [if_neg h0, if_pos h1]; omega
    · simp only [if_neg h0, if_neg h1]; omega
theorem tI_a (how : Int) (A : Int → Int → Bool) {m : Int} (h : 0 ≤ m ∧ m < 625) : A (tI how m / 25) (tI how m % 25) = tn how A (m / 25) (m % 25) := by
  unfold tI tn
  by_cases h0 : how = 0
  · simp only [if_pos h0]; congr 1 <;> omega
  · by_cases h1 : how = 1
    · simp only [if_neg h0, if_pos h1]; congr 1 <;> omega
    · simp only [if_neg h0, if_neg h1]; congr 1 <;> omega
theorem tn_o {how : Int} {A : Int → Int → Bool} (h : SO A) : SO (tn how A) := by
  intro i j hij
  unfold tn
  repeat' split
  all_goals exact h _ _ (by omega)
theorem tn_c {how : Int} {A : Int → Int → Bool} (h : Cl A) : Cl (tn how A) := by
  intro i j hij
  unfold tn at *
  by_cases h0 : how = 0
  · simp only [if_pos h0] at *
    have := h _ _ hij
    refine ⟨fun z => ?_, fun z => this.2 z⟩
    have k := this.1 (by omega)
    rw [show 24 - (i - 1) = 24 - i + 1 by omega, show 24 - (i + 1) = 24 - i - 1 by omega]
    exact ⟨k.2, k.1⟩
  · by_cases h1 : how = 1
    · simp only [if_neg h0, if_pos h1] at *
      have := h _ _ hij
      refine ⟨fun z => this.1 z, fun z => ?_⟩
      have k := this.2 (by omega)
      rw [show 24 - (j - 1) = 24 - j + 1 by omega, show 24 - (j + 1) = 24 - j - 1 by omega]
      exact ⟨k.2, k.1⟩
    · simp only [if_neg h0, if_neg h1] at *
      have := h _ _ hij
      exact ⟨this.2, this.1⟩
def sw (k i : Int) : Int := if i / k % 2 = 0 then i + k else i - k
theorem wd_sw (F : Int → Bool) {m : Int32} (k : Int) (hk : 0 < k ∧ k < 32) (hm : m = wd (fun i => decide (i / k % 2 = 0))) (h2 : ∀ n : Nat, n < 32 → ((n : Int) / k % 2 = 0 → (n : Int) + k < 32) ∧ (¬ (n : Int) / k % 2 = 0 → k ≤ n ∧ ((n : Int) - k) / k % 2 = 0) ∧ ((n : Int) / k % 2 = 0 → k ≤ n → ¬ ((n : Int) - k) / k % 2 = 0)) :
    ((wd F &&& m) <<< (jI k &&& 31)) ||| (((wd F).toUInt32 >>> ((jI k).toUInt32 &&& Int32.toUInt32 31)).toInt32 &&& m) = wd (fun i => F (sw k i)) := by
  rw [hm, wd_and, wd_shl _ (by omega), wd_ushr _ (by omega), wd_and, wd_or]
  refine wd_c (fun i h0 h1 => ?_)
  have h3 := h2 i.toNat (by omega)
  rw [show ((i.toNat : Nat) : Int) = i by omega] at h3
  unfold sw
  by_cases e : i / k % 2 = 0
  · rw [if_pos e]
    have a := h3.1 e
    by_cases e2 : k ≤ i
    · rw [decide_eq_true e, decide_eq_true a, decide_eq_false (h3.2.2 e e2)]; simp
    · rw [decide_eq_true e, decide_eq_true a, decide_eq_false e2]; simp
  · rw [if_neg e]
    have a := h3.2.1 e
    rw [decide_eq_false e, decide_eq_true a.1, decide_eq_true a.2]; simp
theorem sw_all : ∀ n : Nat, n < 32 → sw 1 (sw 2 (sw 4 (sw 8 (sw 16 (n : Int))))) = 31 - n := by decide +kernel
section
variable {c bd : Int32} {rows drawn passed work inner crn rfr rto par cel opn rst : Nat → Int32}
theorem xx_mir {post : Int32 → Prop} {F : Int → Bool} (hF : ∀ i : Int, i < 0 → F i = false) : wpX_mirrored post (wd F) = post (wd (fun i => F (24 - i))) := by
  have m1 : (1431655765 : Int32) = wd (fun i => decide (i / 1 % 2 = 0)) := wd_of (by decide +kernel)
  have m2 : (858993459 : Int32) = wd (fun i => decide (i / 2 % 2 = 0)) := wd_of (by decide +kernel)
  have m4 : (252645135 : Int32) = wd (fun i => decide (i / 4 % 2 = 0)) := wd_of (by decide +kernel)
  have m8 : (16711935 : Int32) = wd (fun i => decide (i / 8 % 2 = 0)) := wd_of (by decide +kernel)
  have s1 := wd_sw F 1 (by omega) m1 (by decide +kernel)
  have s2 := wd_sw (fun i => F (sw 1 i)) 2 (by omega) m2 (by decide +kernel)
  have s4 := wd_sw (fun i => F (sw 1 (sw 2 i))) 4 (by omega) m4 (by decide +kernel)
  have s8 := wd_sw (fun i => F (sw 1 (sw 2 (sw 4 i)))) 8 (by omega) m8 (by decide +kernel)
  have s16 : (wd (fun i => F (sw 1 (sw 2 (sw 4 (sw 8 i))))) <<< (jI 16 &&& 31)) ||| (((wd (fun i => F (sw 1 (sw 2 (sw 4 (sw 8 i)))))).toUInt32 >>> ((jI 16).toUInt32 &&& Int32.toUInt32 31)).toInt32) = wd (fun i => F (sw 1 (sw 2 (sw 4 (sw 8 (sw 16 i)))))) := by
    rw [wd_shl _ (by omega), wd_ushr _ (by omega), wd_or]
    refine wd_c (fun i h0 h1 => ?_)
    have e16 : sw 16 i = if i < 16 then i + 16 else i - 16 := by
      unfold sw
      by_cases e : i < 16
      · rw [if_pos e, if_pos (by omega)]
      · rw [if_neg e, if_neg (by omega)]
    rw [e16]
    by_cases e : i < 16
    · rw [if_pos e, decide_eq_false (by omega), decide_eq_true (by omega)]; simp
    · rw [if_neg e, decide_eq_true (by omega), decide_eq_false (by omega)]; simp
  simp only [wpX_mirrored, jl_1, jl_2, jl_4, jl_7, jl_8, jl_16, forall_eq, s1, s2, s4, s8, s16]
  rw [wd_ushr _ (by omega)]
  refine congrArg post (wd_c (fun i h0 h1 => ?_))
  by_cases e : i + 7 < 32
  · have := sw_all (i + 7).toNat (by omega)
    rw [show (((i + 7).toNat : Nat) : Int) = i + 7 by omega] at this
    rw [this, decide_eq_true e, show 31 - (i + 7) = 24 - i by omega, Bool.true_and]
  · rw [decide_eq_false e, hF (24 - i) (by omega), Bool.false_and]
theorem xx_col {post : Int32 → Prop} {L : Int → Int → Int → Bool} (hR : RX L rows) (hO : RO L) {l i : Int} (h : 0 ≤ l ∧ l < 6 ∧ 0 ≤ i ∧ i < 25) (hp : post (wd (fun t => L l i t))) : wpX_column post (c, bd, rows, drawn, passed, work, inner, crn, rfr, rto, par, cel, opn, rst) (jI l) (jI i) := by
  simp only [wpX_column]
  refine lj_down (fun n j s => wX_column_6 post (jI l) (jI i) c bd rows drawn passed work inner crn rfr rto par cel opn rst n s (jI j)) (fun j => wd (fun t => L l i (j + 1 + t))) 24 ?_ (by omega) (fun n => ?_) (fun n j h0 h1 ih => ?_)
  · refine wd_0.trans (wd_c (fun t t0 t1 => ?_))
    exact (hO l i _ (by omega)).symm
  · simp (disch := omega) only [wX_column_6, jl_0, jl_1, jl_2, jl_3, jl_4, jl_5, jl_6, jl_7, jl_8, jl_9, jl_12, jl_13, jl_16, jl_24, jl_25, jl_50, jl_168, jl_169, jl_624, jl_625, jl_1000, jI_add, jI_sub, jI_mul, jI_neg, jI_div, ie_mod, jI_leT, jI_leF, jI_ltT, jI_ltF, jI_eqT, jI_eqF, jI_cl, jI_inT, forall_eq, true_implies, false_implies, implies_true, not_true_eq_false, not_false_eq_true, true_and, and_true, b2_0, b2_z]
    refine Eq.mp (congrArg post ?_) hp
    exact wd_c (fun t _ _ => by rw [show (-1 : Int) + 1 + t = t by omega])
  · simp (disch := omega) only [wX_column_6, jl_0, jl_1, jl_2, jl_3, jl_4, jl_5, jl_6, jl_7, jl_8, jl_9, jl_12, jl_13, jl_16, jl_24, jl_25, jl_50, jl_168, jl_169, jl_624, jl_625, jl_1000, jI_add, jI_sub, jI_mul, jI_neg, jI_div, ie_mod, jI_leT, jI_leF, jI_ltT, jI_ltF, jI_eqT, jI_eqF, jI_cl, jI_inT, forall_eq, true_implies, false_implies, implies_true, not_true_eq_false, not_false_eq_true, true_and, and_true, b2_0, b2_z, xx_row hR hO, wd_bit]
    have e : wd (fun t => L l i (j + 1 + t)) <<< (jI 1 &&& 31) ||| b2 (L l i j) = wd (fun t => L l i (j - 1 + 1 + t)) := by
      have eb : b2 (L l i j) = wd (fun t => decide (t = 0) && L l i j) := by
        cases L l i j
        · exact wd_0.trans (wd_c (fun t _ _ => by simp))
        · exact wd_J1.trans (wd_c (fun t _ _ => by simp))
      rw [eb, wd_shl _ (by omega), wd_or]
      refine wd_c (fun t t0 t1 => ?_)
      by_cases z : t = 0
      · subst z
        simp (disch := omega) only [dc_T, dc_F]
        rw [show j - 1 + 1 + 0 = j by omega]; simp
      · simp (disch := omega) only [dc_T, dc_F]
        rw [show j - 1 + 1 + t = j + 1 + (t - 1) by omega]; simp
    rw [e, show j + -1 = j - 1 by omega]
    exact ih
end
theorem i_vc_turn {k : Nat} {u : SX} {v : SY} (I : i_Rel k u v) (hk : k + 5 ≤ 2560) (v1 : Int32) (v2 : Int32) : wpX_turn (fun r u' => wpY_turn (fun r' v' => r' = r ∧ i_Rel (k + 5) u' v') v v1 v2) u v1 v2 := by
  refine rl_el (P := fun u v => wpX_turn (fun r u' => wpY_turn (fun r' v' => r' = r ∧ i_Rel (k + 5) u' v') v v1 v2) u v1 v2) ?_ I
  intro L c xs ys bd rows drawn passed work inner crn rfr rto par cel opn rst lys fil mad st px py lab hR
  obtain ⟨l, a1, a2, rfl⟩ := jI_ex v1
  obtain ⟨how, b1, b2', rfl⟩ := jI_ex v2
  by_cases hl : 0 ≤ l ∧ l < 6
  · by_cases hh : 0 ≤ how ∧ how ≤ 2
    · simp (disch := omega) only [wpX_turn, xx_lay, jl_0, jl_1, jl_2, jl_3, jl_4, jl_5, jl_6, jl_7, jl_8, jl_9, jl_12, jl_13, jl_16, jl_24, jl_25, jl_50, jl_168, jl_169, jl_624, jl_625, jl_1000, jI_add, jI_sub, jI_mul, jI_neg, jI_div, ie_mod, jI_leT, jI_leF, jI_ltT, jI_ltF, jI_eqT, jI_eqF, jI_cl, jI_inT, forall_eq, true_implies, false_implies, implies_true, not_true_eq_false, not_false_eq_true, true_and, and_true, b2_0, b2_z]
      refine lj_a (fun n i s => wX_turn_20 _ (jI l) (jI how) (jI c) bd n (jI i) rows drawn passed s inner crn rfr rto par cel opn rst) (fun i => fl work i (fun j => wd (fun i => tn how (L l) i j))) 0 25 (fl_0 _ _).symm (by omega) (fun n => ?_) (fun n i h0 h1 ih => ?_)
      · simp (disch := omega) only [wX_turn_20, jl_0, jl_1, jl_2, jl_3, jl_4, jl_5, jl_6, jl_7, jl_8, jl_9, jl_12, jl_13, jl_16, jl_24, jl_25, jl_50, jl_168, jl_169, jl_624, jl_625, jl_1000, jI_add, jI_sub, jI_mul, jI_neg, jI_div, ie_mod, jI_leT, jI_leF, jI_ltT, jI_ltF, jI_eqT, jI_eqF, jI_cl, jI_inT, forall_eq, true_implies, false_implies, implies_true, not_true_eq_false, not_false_eq_true, true_and, and_true, b2_0, b2_z]
        refine xx_keep hl ?_
        dsimp only
        simp (disch := omega) only [wpY_turn, yy_lay, jl_0, jl_1, jl_2, jl_3, jl_4, jl_5, jl_6, jl_7, jl_8, jl_9, jl_12, jl_13, jl_16, jl_24, jl_25, jl_50, jl_168, jl_169, jl_624, jl_625, jl_1000, jI_add, jI_sub, jI_mul, jI_neg, jI_div, ie_mod, jI_leT, jI_leF, jI_ltT, jI_ltF, jI_eqT, jI_eqF, jI_cl, jI_inT, forall_eq, true_implies, false_implies, implies_true, not_true_eq_false, not_false_eq_true, true_and, and_true, b2_0, b2_z]
        refine lj_a (fun n i s => wY_turn_21 _ (jI l) (jI how) (jI c) n (jI i) lys fil s st px py lab) (fun n => fl mad 625 (fun m => if tI how m < n then b2 (tn how (L l) (m / 25) (m % 25)) else mad m.toNat)) 0 625 ?_ (by omega) (fun n => ?_) (fun n i h0 h1 ih => ?_)
        · funext q
          unfold fl
          by_cases e : (q : Int) < 625
          · rw [if_pos e]
            have := (tI_r (how := how) (m := q) (by omega)).1
            show _ = if tI how q < 0 then _ else _
            rw [if_neg (by omega)]
            rfl
          · rw [if_neg e]
        · simp (disch := omega) only [wY_turn_21, jl_0, jl_1, jl_2, jl_3, jl_4, jl_5, jl_6, jl_7, jl_8, jl_9, jl_12, jl_13, jl_16, jl_24, jl_25, jl_50, jl_168, jl_169, jl_624, jl_625, jl_1000, jI_add, jI_sub, jI_mul, jI_neg, jI_div, ie_mod, jI_leT, jI_leF, jI_ltT, jI_ltF, jI_eqT, jI_eqF, jI_cl, jI_inT, forall_eq, true_implies, false_implies, implies_true, not_true_eq_false, not_false_eq_true, true_and, and_true, b2_0, b2_z]
          refine yy_keep hl (fun m => tn how (L l) (m / 25) (m % 25)) (fun m m0 m1 => ?_) ?_
          · rw [fl_r (by omega), if_pos (tI_r (by omega)).2]
          · dsimp only
            exact rl_mk (ls_rc hR hl (tn_o (hR.2.2.1 l)) (tn_c (hR.2.2.2.1 l)) (fun j j0 j1 => fl_r ⟨j0, j1⟩) (fun n _ _ => rfl))
        · have key : wY_turn_89 (fun r' v' => r' = jI 1 ∧ i_Rel (k + 5) (jI c, bd, wr rows (25 * l) 25 (fun j => fl work 25 (fun j => wd (fun i => tn how (L l) i j)) j.toNat), drawn, passed, fl work 25 (fun j => wd (fun i => tn how (L l) i j)), inner, crn, rfr, rto, par, cel, opn, rst) v') (wY_turn_21 (fun r' v' => r' = jI 1 ∧ i_Rel (k + 5) (jI c, bd, wr rows (25 * l) 25 (fun j => fl work 25 (fun j => wd (fun i => tn how (L l) i j)) j.toNat), drawn, passed, fl work 25 (fun j => wd (fun i => tn how (L l) i j)), inner, crn, rfr, rto, par, cel, opn, rst) v') (jI l) (jI how) (jI c) n) (jI l) (jI how) (jI i) (jI (tI how i)) (jI c) lys fil (fl mad 625 (fun m => if tI how m < i then b2 (tn how (L l) (m / 25) (m % 25)) else mad m.toNat)) st px py lab := by
            have hr := tI_r (how := how) (m := i) (by omega)
            simp (disch := omega) only [wY_turn_89, jl_0, jl_1, jl_2, jl_3, jl_4, jl_5, jl_6, jl_7, jl_8, jl_9, jl_12, jl_13, jl_16, jl_24, jl_25, jl_50, jl_168, jl_169, jl_624, jl_625, jl_1000, jI_add, jI_sub, jI_mul, jI_neg, jI_div, ie_mod, jI_leT, jI_leF, jI_ltT, jI_ltF, jI_eqT, jI_eqF, jI_cl, jI_inT, forall_eq, true_implies, false_implies, implies_true, not_true_eq_false, not_false_eq_true, true_and, and_true, b2_0, b2_z, ry_n hR.2.1, b2_nar, fl_up]
            refine Eq.mp ?_ ih
            congr 1
            refine fl_c (fun m m0 m1 => ?_)
            have hi := tI_i (how := how) (m := i) (by omega)
            have hm := tI_i (how := how) (m := m) (by omega)
            by_cases e : m = tI how i
            · rw [if_pos e]
              have e2 : tI how m = i := by rw [e, hi]
              rw [if_pos (by omega), ← tI_a how (L l) (by omega), e2]
            · rw [if_neg e]
              have e2 : tI how m ≠ i := fun z => e (by rw [← z, hm])
              by_cases e3 : tI how m < i
              · rw [if_pos e3, if_pos (by omega)]
              · rw [if_neg e3, if_neg (by omega)]
          by_cases e0 : how = 0
          · simp (disch := omega) only [wY_turn_21, jl_0, jl_1, jl_2, jl_3, jl_4, jl_5, jl_6, jl_7, jl_8, jl_9, jl_12, jl_13, jl_16, jl_24, jl_25, jl_50, jl_168, jl_169, jl_624, jl_625, jl_1000, jI_add, jI_sub, jI_mul, jI_neg, jI_div, ie_mod, jI_leT, jI_leF, jI_ltT, jI_ltF, jI_eqT, jI_eqF, jI_cl, jI_inT, forall_eq, true_implies, false_implies, implies_true, not_true_eq_false, not_false_eq_true, true_and, and_true, b2_0, b2_z]
            have ei : tI how i = 25 * (24 - i / 25) + i % 25 := if_pos e0
            rw [ei] at key
            exact key
          · by_cases e1 : how = 1
            · simp (disch := omega) only [wY_turn_21, jl_0, jl_1, jl_2, jl_3, jl_4, jl_5, jl_6, jl_7, jl_8, jl_9, jl_12, jl_13, jl_16, jl_24, jl_25, jl_50, jl_168, jl_169, jl_624, jl_625, jl_1000, jI_add, jI_sub, jI_mul, jI_neg, jI_div, ie_mod, jI_leT, jI_leF, jI_ltT, jI_ltF, jI_eqT, jI_eqF, jI_cl, jI_inT, forall_eq, true_implies, false_implies, implies_true, not_true_eq_false, not_false_eq_true, true_and, and_true, b2_0, b2_z]
              have ei : tI how i = 25 * (i / 25) + 24 - i % 25 := by unfold tI; rw [if_neg e0, if_pos e1]
              rw [ei] at key
              exact key
            · simp (disch := omega) only [wY_turn_21, jl_0, jl_1, jl_2, jl_3, jl_4, jl_5, jl_6, jl_7, jl_8, jl_9, jl_12, jl_13, jl_16, jl_24, jl_25, jl_50, jl_168, jl_169, jl_624, jl_625, jl_1000, jI_add, jI_sub, jI_mul, jI_neg, jI_div, ie_mod, jI_leT, jI_leF, jI_ltT, jI_ltF, jI_eqT, jI_eqF, jI_cl, jI_inT, forall_eq, true_implies, false_implies, implies_true, not_true_eq_false, not_false_eq_true, true_and, and_true, b2_0, b2_z]
              have ei : tI how i = 25 * (i % 25) + i / 25 := by unfold tI; rw [if_neg e0, if_neg e1]
              rw [ei] at key
              exact key
      · have hF : ∀ t : Int, t < 0 → (fun i' => L l i' i) t = false := fun t ht => hR.2.2.1 l t i (by omega)
        by_cases e0 : how = 0
        · simp (disch := omega) only [wX_turn_20, jl_0, jl_1, jl_2, jl_3, jl_4, jl_5, jl_6, jl_7, jl_8, jl_9, jl_12, jl_13, jl_16, jl_24, jl_25, jl_50, jl_168, jl_169, jl_624, jl_625, jl_1000, jI_add, jI_sub, jI_mul, jI_neg, jI_div, ie_mod, jI_leT, jI_leF, jI_ltT, jI_ltF, jI_eqT, jI_eqF, jI_cl, jI_inT, forall_eq, true_implies, false_implies, implies_true, not_true_eq_false, not_false_eq_true, true_and, and_true, b2_0, b2_z, xx_row hR.1 hR.2.2.1]
          rw [xx_mir hF]
          rw [fl_S _ _ h0 ?_]
          · exact ih
          · exact wd_c (fun t _ _ => by unfold tn; rw [if_pos e0])
        · by_cases e1 : how = 1
          · simp (disch := omega) only [wX_turn_20, jl_0, jl_1, jl_2, jl_3, jl_4, jl_5, jl_6, jl_7, jl_8, jl_9, jl_12, jl_13, jl_16, jl_24, jl_25, jl_50, jl_168, jl_169, jl_624, jl_625, jl_1000, jI_add, jI_sub, jI_mul, jI_neg, jI_div, ie_mod, jI_leT, jI_leF, jI_ltT, jI_ltF, jI_eqT, jI_eqF, jI_cl, jI_inT, forall_eq, true_implies, false_implies, implies_true, not_true_eq_false, not_false_eq_true, true_and, and_true, b2_0, b2_z, xx_row hR.1 hR.2.2.1]
            rw [fl_S _ _ h0 ?_]
            · exact ih
            · exact wd_c (fun t _ _ => by unfold tn; rw [if_neg e0, if_pos e1])
          · simp (disch := omega) only [wX_turn_20, jl_0, jl_1, jl_2, jl_3, jl_4, jl_5, jl_6, jl_7, jl_8, jl_9, jl_12, jl_13, jl_16, jl_24, jl_25, jl_50, jl_168, jl_169, jl_624, jl_625, jl_1000, jI_add, jI_sub, jI_mul, jI_neg, jI_div, ie_mod, jI_leT, jI_leF, jI_ltT, jI_ltF, jI_eqT, jI_eqF, jI_cl, jI_inT, forall_eq, true_implies, false_implies, implies_true, not_true_eq_false, not_false_eq_true, true_and, and_true, b2_0, b2_z]
            refine xx_col hR.1 hR.2.2.1 (by omega) ?_
            rw [fl_S _ _ h0 ?_]
            · exact ih
            · exact wd_c (fun t _ _ => by unfold tn; rw [if_neg e0, if_neg e1])
    · by_cases h0 : how < 0
      · simp (disch := omega) only [wpX_turn, wpY_turn, xx_lay, yy_lay, jl_0, jl_1, jl_2, jl_3, jl_4, jl_5, jl_6, jl_7, jl_8, jl_9, jl_12, jl_13, jl_16, jl_24, jl_25, jl_50, jl_168, jl_169, jl_624, jl_625, jl_1000, jI_add, jI_sub, jI_mul, jI_neg, jI_div, ie_mod, jI_leT, jI_leF, jI_ltT, jI_ltF, jI_eqT, jI_eqF, jI_cl, jI_inT, forall_eq, true_implies, false_implies, implies_true, not_true_eq_false, not_false_eq_true, true_and, and_true, b2_0, b2_z]
        exact rl_mk hR
      · simp (disch := omega) only [wpX_turn, wpY_turn, xx_lay, yy_lay, jl_0, jl_1, jl_2, jl_3, jl_4, jl_5, jl_6, jl_7, jl_8, jl_9, jl_12, jl_13, jl_16, jl_24, jl_25, jl_50, jl_168, jl_169, jl_624, jl_625, jl_1000, jI_add, jI_sub, jI_mul, jI_neg, jI_div, ie_mod, jI_leT, jI_leF, jI_ltT, jI_ltF, jI_eqT, jI_eqF, jI_cl, jI_inT, forall_eq, true_implies, false_implies, implies_true, not_true_eq_false, not_false_eq_true, true_and, and_true, b2_0, b2_z]
        exact rl_mk hR
  · simp (disch := omega) only [wpX_turn, wpY_turn, xx_layF, yy_layF, jl_0, jl_1, jl_2, jl_3, jl_4, jl_5, jl_6, jl_7, jl_8, jl_9, jl_12, jl_13, jl_16, jl_24, jl_25, jl_50, jl_168, jl_169, jl_624, jl_625, jl_1000, jI_add, jI_sub, jI_mul, jI_neg, jI_div, ie_mod, jI_leT, jI_leF, jI_ltT, jI_ltF, jI_eqT, jI_eqF, jI_cl, jI_inT, forall_eq, true_implies, false_implies, implies_true, not_true_eq_false, not_false_eq_true, true_and, and_true, b2_0, b2_z]
    exact rl_mk hR
end
section
/-! ===== long words ===== -/
def bl (x : Int64) (i : Nat) : Bool := x.toBitVec.getLsbD i
def wl (F : Int → Bool) : Int64 := Int64.ofBitVec ((BitVec.ofBoolListLE ((List.range 64).map (fun k : Nat => F (k : Int)))).setWidth 64)
theorem wl_bt (F : Int → Bool) {i : Nat} (h : i < 64) : bl (wl F) i = F (i : Int) := by
  unfold bl wl
  rw [Int64.toBitVec_ofBitVec, BitVec.getLsbD_setWidth, BitVec.getLsbD_ofBoolListLE, List.getD_eq_getElem?_getD, List.getElem?_map, List.getElem?_range h]
  simp [h]
theorem wl_ext {x y : Int64} (h : ∀ i, i < 64 → bl x i = bl y i) : x = y := Int64.toBitVec_inj.mp (BitVec.eq_of_getLsbD_eq (fun i hi => h i hi))
theorem wl_of {x : Int64} {F : Int → Bool} (h : ∀ i : Nat, i < 64 → bl x i = F i) : x = wl F :=
  wl_ext (fun i hi => (h i hi).trans (wl_bt F hi).symm)
theorem wl_c {F G : Int → Bool} (h : ∀ i : Int, 0 ≤ i → i < 64 → F i = G i) : wl F = wl G :=
  wl_of (fun i hi => by rw [wl_bt F hi]; exact h i (by omega) (by omega))
theorem wl_0 : (0 : Int64) = wl (fun _ => false) := wl_of (fun i hi => BitVec.getLsbD_zero)
theorem wl_or (F G : Int → Bool) : wl F ||| wl G = wl (fun i => F i || G i) := wl_of (fun i hi => by
  have : bl (wl F ||| wl G) i = (bl (wl F) i || bl (wl G) i) := by unfold bl; rw [Int64.toBitVec_or, BitVec.getLsbD_or]
  rw [this, wl_bt F hi, wl_bt G hi])
theorem c_64 : ∀ n, n < 64 → (((nI n).toInt64 &&& 63).toBitVec.smod 64).toNat = n := by decide +kernel
theorem c_u64 : ∀ n, n < 64 → (((nI n).toInt64.toUInt64 &&& Int64.toUInt64 63).toBitVec % 64).toNat = n := by decide +kernel
theorem wl_shl (F : Int → Bool) {k : Int} (h : 0 ≤ k ∧ k < 64) : wl F <<< ((jI k).toInt64 &&& 63) = wl (fun i => decide (k ≤ i) && F (i - k)) := by
  obtain ⟨n, rfl⟩ := Int.eq_ofNat_of_zero_le h.1
  rw [← jI_nI]
  refine wl_of (fun i hi => ?_)
  have e : bl (wl F <<< ((nI n).toInt64 &&& 63)) i = (decide (n ≤ i) && bl (wl F) (i - n)) := by
    unfold bl
    rw [Int64.toBitVec_shiftLeft]
    show ((wl F).toBitVec <<< (((nI n).toInt64 &&& 63).toBitVec.smod 64).toNat).getLsbD i = _
    rw [c_64 n (by omega), BitVec.getLsbD_shiftLeft]
    rcases Nat.lt_or_ge i n with h | h
    · simp [h, Nat.not_le.mpr h]
    · simp [hi, h, Nat.not_lt.mpr h]
  rw [e]
  by_cases e : n ≤ i
  · rw [wl_bt F (by omega), decide_eq_true e, decide_eq_true (show (n : Int) ≤ (i : Int) by omega)]
    simp only [Bool.true_and]
    congr 1
    omega
  · rw [decide_eq_false e, decide_eq_false (show ¬ (n : Int) ≤ (i : Int) by omega)]
    simp only [Bool.false_and]
theorem wl_ushr (F : Int → Bool) {k : Int} (h : 0 ≤ k ∧ k < 64) : ((wl F).toUInt64 >>> ((jI k).toInt64.toUInt64 &&& Int64.toUInt64 63)).toInt64 = wl (fun i => decide (i + k < 64) && F (i + k)) := by
  obtain ⟨n, rfl⟩ := Int.eq_ofNat_of_zero_le h.1
  rw [← jI_nI]
  refine wl_of (fun i hi => ?_)
  have e : bl (((wl F).toUInt64 >>> ((nI n).toInt64.toUInt64 &&& Int64.toUInt64 63)).toInt64) i = bl (wl F) (n + i) := by
    show ((wl F).toUInt64 >>> ((nI n).toInt64.toUInt64 &&& Int64.toUInt64 63)).toBitVec.getLsbD i = (wl F).toUInt64.toBitVec.getLsbD (n + i)
    rw [UInt64.toBitVec_shiftRight]
    show ((wl F).toUInt64.toBitVec >>> (((nI n).toInt64.toUInt64 &&& Int64.toUInt64 63).toBitVec % 64).toNat).getLsbD i = _
    rw [c_u64 n (by omega), BitVec.getLsbD_ushiftRight]
  rw [e]
  by_cases e : n + i < 64
  · rw [wl_bt F e, decide_eq_true (show (i : Int) + (n : Int) < 64 by omega), Bool.true_and]
    congr 1
    omega
  · rw [decide_eq_false (show ¬ (i : Int) + (n : Int) < 64 by omega), Bool.false_and]
    exact BitVec.getLsbD_of_ge _ _ (by omega)
theorem wl_w (F : Int → Bool) : (wd F).toInt64 = wl (fun i => if i < 32 then F i else F 31) := wl_of (fun i hi => by
  unfold bl
  rw [Int32.toBitVec_toInt64, BitVec.getLsbD_signExtend, BitVec.msb_eq_getLsbD_last]
  by_cases e : i < 32
  · have := wd_bt F e
    unfold bt at this
    rw [if_pos e, if_pos (by omega), this]
    simp [hi]
  · have := wd_bt F (i := 31) (by omega)
    unfold bt at this
    rw [if_neg e, if_neg (by omega)]
    show (decide (i < 64) && (wd F).toBitVec.getLsbD 31) = _
    rw [this]
    simp [hi])
theorem wl_i (F : Int → Bool) : (wl F).toInt32 = wd F := wd_of (fun i hi => by
  unfold bt
  rw [Int64.toBitVec_toInt32, BitVec.getLsbD_signExtend, if_pos (by omega)]
  have := wl_bt F (i := i) (by omega)
  unfold bl at this
  rw [this]
  simp [hi])
/-! ===== growing ===== -/
def gr (A : Int → Int → Bool) (f i j : Int) : Prop := (0 ≤ i ∧ i < 25 ∧ 0 ≤ j ∧ j < 25) ∧ ∃ u v : Int, i - f ≤ u ∧ u ≤ i + f ∧ j - f ≤ v ∧ v ≤ j + f ∧ A u v = true
theorem gr_o (A : Int → Int → Bool) (f : Int) : SO (fun i j => ex (gr A f i j)) := fun i j h => ex_F (fun z => h z.1)
theorem gr_c {A : Int → Int → Bool} (hA : Cl A) (r : Int) : Cl (fun i j => ex (gr A (2 * r) i j)) := by
  intro i j h
  simp only [ex_t] at *
  obtain ⟨hr, u, v, u1, u2, v1, v2, h⟩ := h
  have hc := hA u v h
  refine ⟨fun hi => ⟨⟨by omega, ?_⟩, ⟨by omega, ?_⟩⟩, fun hj => ⟨⟨by omega, ?_⟩, ⟨by omega, ?_⟩⟩⟩
  · by_cases e : u = i + 2 * r
    · exact ⟨u - 1, v, by omega, by omega, by omega, by omega, (hc.1 (by omega)).1⟩
    · exact ⟨u, v, by omega, by omega, by omega, by omega, h⟩
  · by_cases e : u = i - 2 * r
    · exact ⟨u + 1, v, by omega, by omega, by omega, by omega, (hc.1 (by omega)).2⟩
    · exact ⟨u, v, by omega, by omega, by omega, by omega, h⟩
  · by_cases e : v = j + 2 * r
    · exact ⟨u, v - 1, by omega, by omega, by omega, by omega, (hc.2 (by omega)).1⟩
    · exact ⟨u, v, by omega, by omega, by omega, by omega, h⟩
  · by_cases e : v = j - 2 * r
    · exact ⟨u, v + 1, by omega, by omega, by omega, by omega, (hc.2 (by omega)).2⟩
    · exact ⟨u, v, by omega, by omega, by omega, by omega, h⟩
section
variable {c bd : Int32} {rows drawn passed work inner crn rfr rto par cel opn rst : Nat → Int32}
variable {post : Int32 → SX → Prop}
theorem gw_w {L : Int → Int → Int → Bool} (hO : RO L) (l j : Int) : (wd (fun i => L l i j)).toInt64 <<< ((jI 24).toInt64 &&& 63) = wl (fun i => L l (i - 24) j) := by
  rw [wl_w, wl_shl _ (by omega)]
  refine wl_c (fun i h0 h1 => ?_)
  by_cases e : 24 ≤ i
  · rw [decide_eq_true e, Bool.true_and]
    by_cases e2 : i - 24 < 32
    · rw [if_pos e2]
    · rw [if_neg e2, hO l (i - 24) j (by omega), hO l 31 j (by omega)]
  · rw [decide_eq_false e, Bool.false_and, hO l (i - 24) j (by omega)]
/-- a row spread to both sides -/
def gh (A : Int → Int → Bool) (f i j : Int) : Prop := (0 ≤ i ∧ i < 25) ∧ ∃ u : Int, i - f ≤ u ∧ u ≤ i + f ∧ A u j = true
theorem xx_g54 {L : Int → Int → Int → Bool} (hO : RO L) {J : Int32 → (Nat → Int32) → (Nat → Int32) → (Nat → Int32) → (Nat → Int32) → (Nat → Int32) → (Nat → Int32) → (Nat → Int32) → (Nat → Int32) → (Nat → Int32) → (Nat → Int32) → (Nat → Int32) → (Nat → Int32) → Prop} {l r j : Int} (h : 0 ≤ r ∧ r ≤ 12 ∧ 0 ≤ j ∧ j < 25)
    (hJ : J (jI (j + 1)) rows drawn passed work (upd inner j.toNat (wd (fun i => ex (gh (L l) (2 * r) i j)))) crn rfr rto par cel opn rst) : ∃ n, wX_grow_54 post J (jI l) (jI r) (jI j) (wl (fun i => L l (i - 24) j)) c bd rows drawn passed work inner crn rfr rto par cel opn rst n 0 0 := by
  refine lj_a (fun n k s => wX_grow_54 post J (jI l) (jI r) (jI j) (wl (fun i => L l (i - 24) j)) c bd rows drawn passed work inner crn rfr rto par cel opn rst n s (jI k)) (fun k => wl (fun i => ex (∃ k' : Int, 0 ≤ k' ∧ k' < k ∧ (L l (i - 24 - k') j = true ∨ L l (i - 24 + k') j = true)))) 0 (2 * r + 1) ?_ (by omega) (fun n => ?_) (fun n k h0 h1 ih => ?_)
  · refine wl_0.trans (wl_c (fun i _ _ => ?_))
    refine (ex_F ?_).symm
    rintro ⟨k', a, b, _⟩
    omega
  · simp (disch := omega) only [wX_grow_54, jl_0, jl_1, jl_2, jl_3, jl_4, jl_5, jl_6, jl_7, jl_8, jl_9, jl_12, jl_13, jl_16, jl_24, jl_25, jl_50, jl_168, jl_169, jl_624, jl_625, jl_1000, jI_add, jI_sub, jI_mul, jI_neg, jI_div, ie_mod, jI_leT, jI_leF, jI_ltT, jI_ltF, jI_eqT, jI_eqF, jI_cl, jI_inT, forall_eq, true_implies, false_implies, implies_true, not_true_eq_false, not_false_eq_true, true_and, and_true, b2_0, b2_z, wl_ushr, wl_i, wd_mF, wd_and]
    refine Eq.mp ?_ hJ
    congr 1
    refine congrArg (upd inner j.toNat) (wd_c (fun i i0 i1 => ?_))
    by_cases e : i < 25
    · rw [decide_eq_true e, decide_eq_true (show i + 24 < 64 by omega), Bool.and_true, Bool.true_and]
      refine ex_c ⟨?_, ?_⟩
      · rintro ⟨_, u, u1, u2, hu⟩
        by_cases z : u ≤ i
        · exact ⟨i - u, by omega, by omega, Or.inl (by rw [show i + 24 - 24 - (i - u) = u by omega]; exact hu)⟩
        · exact ⟨u - i, by omega, by omega, Or.inr (by rw [show i + 24 - 24 + (u - i) = u by omega]; exact hu)⟩
      · rintro ⟨k', a, b, hk | hk⟩
        · exact ⟨⟨i0, e⟩, _, by omega, by omega, hk⟩
        · exact ⟨⟨i0, e⟩, _, by omega, by omega, hk⟩
    · rw [decide_eq_false e, Bool.and_false]
      exact ex_F (fun z => e z.1.2)
  · simp (disch := omega) only [wX_grow_54, jl_0, jl_1, jl_2, jl_3, jl_4, jl_5, jl_6, jl_7, jl_8, jl_9, jl_12, jl_13, jl_16, jl_24, jl_25, jl_50, jl_168, jl_169, jl_624, jl_625, jl_1000, jI_add, jI_sub, jI_mul, jI_neg, jI_div, ie_mod, jI_leT, jI_leF, jI_ltT, jI_ltF, jI_eqT, jI_eqF, jI_cl, jI_inT, forall_eq, true_implies, false_implies, implies_true, not_true_eq_false, not_false_eq_true, true_and, and_true, b2_0, b2_z, wl_ushr, wl_shl, wl_or]
    refine Eq.mp ?_ ih
    congr 1
    refine wl_c (fun i i0 i1 => ?_)
    have e1 : (decide (k ≤ i) && L l (i - k - 24) j) = ex (L l (i - 24 - k) j = true) := by
      rw [show i - k - 24 = i - 24 - k by omega]
      by_cases e : k ≤ i
      · rw [decide_eq_true e, Bool.true_and]; exact ex_b _
      · rw [hO l (i - 24 - k) j (by omega), Bool.and_false]; exact (ex_F (by decide)).symm
    have e2 : (decide (i + k < 64) && L l (i + k - 24) j) = ex (L l (i - 24 + k) j = true) := by
      rw [show i + k - 24 = i - 24 + k by omega]
      by_cases e : i + k < 64
      · rw [decide_eq_true e, Bool.true_and]; exact ex_b _
      · rw [hO l (i - 24 + k) j (by omega), Bool.and_false]; exact (ex_F (by decide)).symm
    rw [e1, e2, ex_or, ex_or]
    refine ex_c ⟨?_, ?_⟩
    · rintro ⟨k', a, b, hk⟩
      by_cases z : k' = k
      · subst z; exact Or.inr hk
      · exact Or.inl ⟨k', a, by omega, hk⟩
    · rintro (⟨k', a, b, hk⟩ | hk)
      · exact ⟨k', a, by omega, hk⟩
      · exact ⟨k, h0, by omega, hk⟩
theorem xx_g123 {H : Int → Int → Bool} (hH : ∀ v : Int, 0 ≤ v → v < 25 → inner v.toNat = wd (fun i => H i v)) {J : Int32 → (Nat → Int32) → (Nat → Int32) → (Nat → Int32) → (Nat → Int32) → (Nat → Int32) → (Nat → Int32) → (Nat → Int32) → (Nat → Int32) → (Nat → Int32) → (Nat → Int32) → (Nat → Int32) → (Nat → Int32) → Prop} {l r j : Int} (hl : 0 ≤ l ∧ l < 6) (h : 0 ≤ r ∧ r ≤ 12 ∧ 0 ≤ j ∧ j < 25)
    (hJ : J (jI (j + 1)) (upd rows (25 * l + j).toNat (wd (fun i => ex (∃ v : Int, j - 2 * r ≤ v ∧ v ≤ j + 2 * r ∧ (0 ≤ v ∧ v < 25) ∧ H i v = true)))) drawn passed work inner crn rfr rto par cel opn rst) : ∃ n, wX_grow_123 post J (jI l) (jI r) (jI j) c bd rows drawn passed work inner crn rfr rto par cel opn rst n 0 (jI (j - 2 * r)) := by
  refine lj_a (fun n k s => wX_grow_123 post J (jI l) (jI r) (jI j) c bd rows drawn passed work inner crn rfr rto par cel opn rst n s (jI k)) (fun k => wd (fun i => ex (∃ v : Int, j - 2 * r ≤ v ∧ v < k ∧ (0 ≤ v ∧ v < 25) ∧ H i v = true))) (j - 2 * r) (j + 2 * r + 1) ?_ (by omega) (fun n => ?_) (fun n k h0 h1 ih => ?_)
  · refine wd_0.trans (wd_c (fun i _ _ => ?_))
    refine (ex_F ?_).symm
    rintro ⟨v, a, b, _⟩
    omega
  · simp (disch := omega) only [wX_grow_123, jl_0, jl_1, jl_2, jl_3, jl_4, jl_5, jl_6, jl_7, jl_8, jl_9, jl_12, jl_13, jl_16, jl_24, jl_25, jl_50, jl_168, jl_169, jl_624, jl_625, jl_1000, jI_add, jI_sub, jI_mul, jI_neg, jI_div, ie_mod, jI_leT, jI_leF, jI_ltT, jI_ltF, jI_eqT, jI_eqF, jI_cl, jI_inT, forall_eq, true_implies, false_implies, implies_true, not_true_eq_false, not_false_eq_true, true_and, and_true, b2_0, b2_z]
    refine Eq.mp ?_ hJ
    congr 1
    refine congrArg (upd rows (25 * l + j).toNat) (wd_c (fun i i0 i1 => ?_))
    refine ex_c ⟨?_, ?_⟩
    · rintro ⟨v, a, b, hv⟩; exact ⟨v, a, by omega, hv⟩
    · rintro ⟨v, a, b, hv⟩; exact ⟨v, a, by omega, hv⟩
  · by_cases hk : 0 ≤ k ∧ k < 25
    · simp (disch := omega) only [wX_grow_123, jl_0, jl_1, jl_2, jl_3, jl_4, jl_5, jl_6, jl_7, jl_8, jl_9, jl_12, jl_13, jl_16, jl_24, jl_25, jl_50, jl_168, jl_169, jl_624, jl_625, jl_1000, jI_add, jI_sub, jI_mul, jI_neg, jI_div, ie_mod, jI_leT, jI_leF, jI_ltT, jI_ltF, jI_eqT, jI_eqF, jI_cl, jI_inT, forall_eq, true_implies, false_implies, implies_true, not_true_eq_false, not_false_eq_true, true_and, and_true, b2_0, b2_z, hH, wd_or]
      refine Eq.mp ?_ ih
      congr 1
      refine wd_c (fun i i0 i1 => ?_)
      rw [ex_b (H i k), ex_or]
      refine ex_c ⟨?_, ?_⟩
      · rintro ⟨v, a, b, hv, hw⟩
        by_cases z : v = k
        · subst z; exact Or.inr hw
        · exact Or.inl ⟨v, a, by omega, hv, hw⟩
      · rintro (⟨v, a, b, hv⟩ | hw)
        · exact ⟨v, a, by omega, hv⟩
        · exact ⟨k, by omega, by omega, hk, hw⟩
    · have e : wd (fun i => ex (∃ v : Int, j - 2 * r ≤ v ∧ v < k + 1 ∧ (0 ≤ v ∧ v < 25) ∧ H i v = true)) = wd (fun i => ex (∃ v : Int, j - 2 * r ≤ v ∧ v < k ∧ (0 ≤ v ∧ v < 25) ∧ H i v = true)) := by
        refine wd_c (fun i i0 i1 => ?_)
        refine ex_c ⟨?_, ?_⟩
        · rintro ⟨v, a, b, hv⟩; exact ⟨v, a, by omega, hv⟩
        · rintro ⟨v, a, b, hv⟩; exact ⟨v, a, by omega, hv⟩
      rw [e] at ih
      by_cases hk0 : k < 0
      · simp (disch := omega) only [wX_grow_123, jl_0, jl_1, jl_2, jl_3, jl_4, jl_5, jl_6, jl_7, jl_8, jl_9, jl_12, jl_13, jl_16, jl_24, jl_25, jl_50, jl_168, jl_169, jl_624, jl_625, jl_1000, jI_add, jI_sub, jI_mul, jI_neg, jI_div, ie_mod, jI_leT, jI_leF, jI_ltT, jI_ltF, jI_eqT, jI_eqF, jI_cl, jI_inT, forall_eq, true_implies, false_implies, implies_true, not_true_eq_false, not_false_eq_true, true_and, and_true, b2_0, b2_z]; exact ih
      · simp (disch := omega) only [wX_grow_123, jl_0, jl_1, jl_2, jl_3, jl_4, jl_5, jl_6, jl_7, jl_8, jl_9, jl_12, jl_13, jl_16, jl_24, jl_25, jl_50, jl_168, jl_169, jl_624, jl_625, jl_1000, jI_add, jI_sub, jI_mul, jI_neg, jI_div, ie_mod, jI_leT, jI_leF, jI_ltT, jI_ltF, jI_eqT, jI_eqF, jI_cl, jI_inT, forall_eq, true_implies, false_implies, implies_true, not_true_eq_false, not_false_eq_true, true_and, and_true, b2_0, b2_z]; exact ih
end
section
variable {cy : Int32} {lys fil mad st px py lab : Nat → Int32}
variable {post : Int32 → Prop}
theorem yy_near {L : Int → Int → Int → Bool} (hY : RY L lys) (hO : RO L) {l i j f : Int} (h : 0 ≤ l ∧ l < 6 ∧ 0 ≤ i ∧ i < 25 ∧ 0 ≤ j ∧ j < 25 ∧ 0 ≤ f ∧ f < 100) (hp : post (b2 (ex (gr (L l) f i j)))) : wpY_near post (cy, lys, fil, mad, st, px, py, lab) (jI l) (jI i) (jI j) (jI f) := by
  have h1 : gr (L l) f i j → post (jI 1) := fun z => by rw [ex_T z] at hp; exact hp
  have h0 : ¬ gr (L l) f i j → post (jI 0) := fun z => by rw [ex_F z] at hp; exact hp
  have fin : ∀ u v : Int, 0 ≤ u → u < 25 → i - f ≤ u → u ≤ i + f → 0 ≤ v → v < 25 → j - f ≤ v → v ≤ j + f → L l u v = true → post (jI 1) :=
    fun u v _ _ a b _ _ d e g => h1 ⟨by omega, u, v, a, b, d, e, g⟩
  have main : ∃ n, wY_near_17 post (jI l) (jI i) (jI j) (jI f) cy lys fil mad st px py lab n (jI (max (i - f) 0)) := by
    refine lj_i (fun n u (_ : Unit) => wY_near_17 post (jI l) (jI i) (jI j) (jI f) cy lys fil mad st px py lab n (jI u)) (fun u _ => ∀ u' v' : Int, max (i - f) 0 ≤ u' → u' < u → 0 ≤ v' → v' < 25 → j - f ≤ v' → v' ≤ j + f → L l u' v' = false) (max (i - f) 0) (min (i + f) 24 + 1) (s0 := ()) ?_ (by omega) (fun n _ hI => ?_) (fun n u _ hu0 hu1 hI ih => ?_)
    · intro u' v' a b; omega
    · have e : post (jI 0) := by
        refine h0 ?_
        rintro ⟨_, u, v, a, b, d, e, g⟩
        have hr : 0 ≤ u ∧ u < 25 ∧ 0 ≤ v ∧ v < 25 := by
          apply Classical.byContradiction
          intro z
          rw [hO l u v z] at g
          cases g
        rw [hI u v (by omega) (by omega) (by omega) (by omega) d e] at g
        cases g
      by_cases z : i + f < 24
      · rw [show min (i + f) 24 + 1 = i + f + 1 by omega]
        simp (disch := omega) only [wY_near_17, jl_0, jl_1, jl_2, jl_3, jl_4, jl_5, jl_6, jl_7, jl_8, jl_9, jl_12, jl_13, jl_16, jl_24, jl_25, jl_50, jl_168, jl_169, jl_624, jl_625, jl_1000, jI_add, jI_sub, jI_mul, jI_neg, jI_div, ie_mod, jI_leT, jI_leF, jI_ltT, jI_ltF, jI_eqT, jI_eqF, jI_cl, jI_inT, forall_eq, true_implies, false_implies, implies_true, not_true_eq_false, not_false_eq_true, true_and, and_true, b2_0, b2_z]; exact e
      · rw [show min (i + f) 24 + 1 = 25 by omega]
        by_cases z2 : i + f < 25
        · simp (disch := omega) only [wY_near_17, jl_0, jl_1, jl_2, jl_3, jl_4, jl_5, jl_6, jl_7, jl_8, jl_9, jl_12, jl_13, jl_16, jl_24, jl_25, jl_50, jl_168, jl_169, jl_624, jl_625, jl_1000, jI_add, jI_sub, jI_mul, jI_neg, jI_div, ie_mod, jI_leT, jI_leF, jI_ltT, jI_ltF, jI_eqT, jI_eqF, jI_cl, jI_inT, forall_eq, true_implies, false_implies, implies_true, not_true_eq_false, not_false_eq_true, true_and, and_true, b2_0, b2_z]; exact e
        · simp (disch := omega) only [wY_near_17, jl_0, jl_1, jl_2, jl_3, jl_4, jl_5, jl_6, jl_7, jl_8, jl_9, jl_12, jl_13, jl_16, jl_24, jl_25, jl_50, jl_168, jl_169, jl_624, jl_625, jl_1000, jI_add, jI_sub, jI_mul, jI_neg, jI_div, ie_mod, jI_leT, jI_leF, jI_ltT, jI_ltF, jI_eqT, jI_eqF, jI_cl, jI_inT, forall_eq, true_implies, false_implies, implies_true, not_true_eq_false, not_false_eq_true, true_and, and_true, b2_0, b2_z]; exact e
    · have inn : ∃ n50, wY_near_50 post (wY_near_17 post (jI l) (jI i) (jI j) (jI f) cy lys fil mad st px py lab n) (jI l) (jI i) (jI j) (jI f) (jI u) cy lys fil mad st px py lab n50 (jI (max (j - f) 0)) := by
        refine lj_i (fun n50 v (_ : Unit) => wY_near_50 post (wY_near_17 post (jI l) (jI i) (jI j) (jI f) cy lys fil mad st px py lab n) (jI l) (jI i) (jI j) (jI f) (jI u) cy lys fil mad st px py lab n50 (jI v)) (fun v _ => ∀ v' : Int, max (j - f) 0 ≤ v' → v' < v → L l u v' = false) (max (j - f) 0) (min (j + f) 24 + 1) (s0 := ()) ?_ (by omega) (fun n50 _ hI2 => ?_) (fun n50 v _ hv0 hv1 hI2 ih2 => ?_)
        · intro v' a b; omega
        · have e : wY_near_17 post (jI l) (jI i) (jI j) (jI f) cy lys fil mad st px py lab n (jI (u + 1)) := ih () (fun u' v' a b d e g m => by
            by_cases z : u' = u
            · subst z; exact hI2 v' (by omega) (by omega)
            · exact hI u' v' a (by omega) d e g m)
          by_cases z : j + f < 24
          · rw [show min (j + f) 24 + 1 = j + f + 1 by omega]
            simp (disch := omega) only [wY_near_50, jl_0, jl_1, jl_2, jl_3, jl_4, jl_5, jl_6, jl_7, jl_8, jl_9, jl_12, jl_13, jl_16, jl_24, jl_25, jl_50, jl_168, jl_169, jl_624, jl_625, jl_1000, jI_add, jI_sub, jI_mul, jI_neg, jI_div, ie_mod, jI_leT, jI_leF, jI_ltT, jI_ltF, jI_eqT, jI_eqF, jI_cl, jI_inT, forall_eq, true_implies, false_implies, implies_true, not_true_eq_false, not_false_eq_true, true_and, and_true, b2_0, b2_z]; exact e
          · rw [show min (j + f) 24 + 1 = 25 by omega]
            by_cases z2 : j + f < 25
            · simp (disch := omega) only [wY_near_50, jl_0, jl_1, jl_2, jl_3, jl_4, jl_5, jl_6, jl_7, jl_8, jl_9, jl_12, jl_13, jl_16, jl_24, jl_25, jl_50, jl_168, jl_169, jl_624, jl_625, jl_1000, jI_add, jI_sub, jI_mul, jI_neg, jI_div, ie_mod, jI_leT, jI_leF, jI_ltT, jI_ltF, jI_eqT, jI_eqF, jI_cl, jI_inT, forall_eq, true_implies, false_implies, implies_true, not_true_eq_false, not_false_eq_true, true_and, and_true, b2_0, b2_z]; exact e
            · simp (disch := omega) only [wY_near_50, jl_0, jl_1, jl_2, jl_3, jl_4, jl_5, jl_6, jl_7, jl_8, jl_9, jl_12, jl_13, jl_16, jl_24, jl_25, jl_50, jl_168, jl_169, jl_624, jl_625, jl_1000, jI_add, jI_sub, jI_mul, jI_neg, jI_div, ie_mod, jI_leT, jI_leF, jI_ltT, jI_ltF, jI_eqT, jI_eqF, jI_cl, jI_inT, forall_eq, true_implies, false_implies, implies_true, not_true_eq_false, not_false_eq_true, true_and, and_true, b2_0, b2_z]; exact e
        · simp (disch := omega) only [wY_near_50, jl_0, jl_1, jl_2, jl_3, jl_4, jl_5, jl_6, jl_7, jl_8, jl_9, jl_12, jl_13, jl_16, jl_24, jl_25, jl_50, jl_168, jl_169, jl_624, jl_625, jl_1000, jI_add, jI_sub, jI_mul, jI_neg, jI_div, ie_mod, jI_leT, jI_leF, jI_ltT, jI_ltF, jI_eqT, jI_eqF, jI_cl, jI_inT, forall_eq, true_implies, false_implies, implies_true, not_true_eq_false, not_false_eq_true, true_and, and_true, b2_0, b2_z, hY l u v]
          refine tf_c (fun e => ?_) (fun e => fin u v (by omega) (by omega) (by omega) (by omega) (by omega) (by omega) (by omega) (by omega) e)
          exact ih2 () (fun v' a b => by
            by_cases z : v' = v
            · subst z; exact e
            · exact hI2 v' a (by omega))
      by_cases z : 0 ≤ j - f
      · rw [show max (j - f) 0 = j - f by omega] at inn
        simp (disch := omega) only [wY_near_17, jl_0, jl_1, jl_2, jl_3, jl_4, jl_5, jl_6, jl_7, jl_8, jl_9, jl_12, jl_13, jl_16, jl_24, jl_25, jl_50, jl_168, jl_169, jl_624, jl_625, jl_1000, jI_add, jI_sub, jI_mul, jI_neg, jI_div, ie_mod, jI_leT, jI_leF, jI_ltT, jI_ltF, jI_eqT, jI_eqF, jI_cl, jI_inT, forall_eq, true_implies, false_implies, implies_true, not_true_eq_false, not_false_eq_true, true_and, and_true, b2_0, b2_z]; exact inn
      · rw [show max (j - f) 0 = 0 by omega] at inn
        simp (disch := omega) only [wY_near_17, jl_0, jl_1, jl_2, jl_3, jl_4, jl_5, jl_6, jl_7, jl_8, jl_9, jl_12, jl_13, jl_16, jl_24, jl_25, jl_50, jl_168, jl_169, jl_624, jl_625, jl_1000, jI_add, jI_sub, jI_mul, jI_neg, jI_div, ie_mod, jI_leT, jI_leF, jI_ltT, jI_ltF, jI_eqT, jI_eqF, jI_cl, jI_inT, forall_eq, true_implies, false_implies, implies_true, not_true_eq_false, not_false_eq_true, true_and, and_true, b2_0, b2_z]; exact inn
  by_cases z : 0 ≤ i - f
  · rw [show max (i - f) 0 = i - f by omega] at main
    simp (disch := omega) only [wpY_near, jl_0, jl_1, jl_2, jl_3, jl_4, jl_5, jl_6, jl_7, jl_8, jl_9, jl_12, jl_13, jl_16, jl_24, jl_25, jl_50, jl_168, jl_169, jl_624, jl_625, jl_1000, jI_add, jI_sub, jI_mul, jI_neg, jI_div, ie_mod, jI_leT, jI_leF, jI_ltT, jI_ltF, jI_eqT, jI_eqF, jI_cl, jI_inT, forall_eq, true_implies, false_implies, implies_true, not_true_eq_false, not_false_eq_true, true_and, and_true, b2_0, b2_z]; exact main
  · rw [show max (i - f) 0 = 0 by omega] at main
    simp (disch := omega) only [wpY_near, jl_0, jl_1, jl_2, jl_3, jl_4, jl_5, jl_6, jl_7, jl_8, jl_9, jl_12, jl_13, jl_16, jl_24, jl_25, jl_50, jl_168, jl_169, jl_624, jl_625, jl_1000, jI_add, jI_sub, jI_mul, jI_neg, jI_div, ie_mod, jI_leT, jI_leF, jI_ltT, jI_ltF, jI_eqT, jI_eqF, jI_cl, jI_inT, forall_eq, true_implies, false_implies, implies_true, not_true_eq_false, not_false_eq_true, true_and, and_true, b2_0, b2_z]; exact main
end
theorem i_vc_grow {k : Nat} {u : SX} {v : SY} (I : i_Rel k u v) (hk : k + 5 ≤ 2560) (v1 : Int32) (v2 : Int32) : wpX_grow (fun r u' => wpY_grow (fun r' v' => r' = r ∧ i_Rel (k + 5) u' v') v v1 v2) u v1 v2 := by
  refine rl_el (P := fun u v => wpX_grow (fun r u' => wpY_grow (fun r' v' => r' = r ∧ i_Rel (k + 5) u' v') v v1 v2) u v1 v2) ?_ I
  intro L c xs ys bd rows drawn passed work inner crn rfr rto par cel opn rst lys fil mad st px py lab hR
  obtain ⟨l, a1, a2, rfl⟩ := jI_ex v1
  obtain ⟨r, b1, b2', rfl⟩ := jI_ex v2
  by_cases hl : 0 ≤ l ∧ l < 6
  · by_cases hh : 0 ≤ r ∧ r ≤ 12
    · simp (disch := omega) only [wpX_grow, xx_lay, jl_0, jl_1, jl_2, jl_3, jl_4, jl_5, jl_6, jl_7, jl_8, jl_9, jl_12, jl_13, jl_16, jl_24, jl_25, jl_50, jl_168, jl_169, jl_624, jl_625, jl_1000, jI_add, jI_sub, jI_mul, jI_neg, jI_div, ie_mod, jI_leT, jI_leF, jI_ltT, jI_ltF, jI_eqT, jI_eqF, jI_cl, jI_inT, forall_eq, true_implies, false_implies, implies_true, not_true_eq_false, not_false_eq_true, true_and, and_true, b2_0, b2_z]
      refine lj_a (fun n i s => wX_grow_21 _ (jI l) (jI r) (jI c) bd n (jI i) rows drawn passed work s crn rfr rto par cel opn rst) (fun i => fl inner i (fun j => wd (fun i => ex (gh (L l) (2 * r) i j)))) 0 25 (fl_0 _ _).symm (by omega) (fun n => ?_) (fun n i h0 h1 ih => ?_)
      · simp (disch := omega) only [wX_grow_21, jl_0, jl_1, jl_2, jl_3, jl_4, jl_5, jl_6, jl_7, jl_8, jl_9, jl_12, jl_13, jl_16, jl_24, jl_25, jl_50, jl_168, jl_169, jl_624, jl_625, jl_1000, jI_add, jI_sub, jI_mul, jI_neg, jI_div, ie_mod, jI_leT, jI_leF, jI_ltT, jI_ltF, jI_eqT, jI_eqF, jI_cl, jI_inT, forall_eq, true_implies, false_implies, implies_true, not_true_eq_false, not_false_eq_true, true_and, and_true, b2_0, b2_z]
        refine lj_a (fun n i s => wX_grow_107 _ (jI l) (jI r) (jI c) bd n (jI i) s drawn passed work (fl inner 25 (fun j => wd (fun i => ex (gh (L l) (2 * r) i j)))) crn rfr rto par cel opn rst) (fun i => wr rows (25 * l) i (fun j => wd (fun i => ex (gr (L l) (2 * r) i j)))) 0 25 (wr_0 _ _ _).symm (by omega) (fun n => ?_) (fun n i h0 h1 ih => ?_)
        · simp (disch := omega) only [wX_grow_107, jl_0, jl_1, jl_2, jl_3, jl_4, jl_5, jl_6, jl_7, jl_8, jl_9, jl_12, jl_13, jl_16, jl_24, jl_25, jl_50, jl_168, jl_169, jl_624, jl_625, jl_1000, jI_add, jI_sub, jI_mul, jI_neg, jI_div, ie_mod, jI_leT, jI_leF, jI_ltT, jI_ltF, jI_eqT, jI_eqF, jI_cl, jI_inT, forall_eq, true_implies, false_implies, implies_true, not_true_eq_false, not_false_eq_true, true_and, and_true, b2_0, b2_z]
          simp (disch := omega) only [wpY_grow, yy_lay, jl_0, jl_1, jl_2, jl_3, jl_4, jl_5, jl_6, jl_7, jl_8, jl_9, jl_12, jl_13, jl_16, jl_24, jl_25, jl_50, jl_168, jl_169, jl_624, jl_625, jl_1000, jI_add, jI_sub, jI_mul, jI_neg, jI_div, ie_mod, jI_leT, jI_leF, jI_ltT, jI_ltF, jI_eqT, jI_eqF, jI_cl, jI_inT, forall_eq, true_implies, false_implies, implies_true, not_true_eq_false, not_false_eq_true, true_and, and_true, b2_0, b2_z]
          refine lj_a (fun n i s => wY_grow_22 _ (jI l) (jI r) (jI c) n (jI i) lys fil s st px py lab) (fun i => fl mad i (fun n => b2 (ex (gr (L l) (2 * r) (n / 25) (n % 25))))) 0 625 (fl_0 _ _).symm (by omega) (fun n => ?_) (fun n i h0 h1 ih => ?_)
          · simp (disch := omega) only [wY_grow_22, jl_0, jl_1, jl_2, jl_3, jl_4, jl_5, jl_6, jl_7, jl_8, jl_9, jl_12, jl_13, jl_16, jl_24, jl_25, jl_50, jl_168, jl_169, jl_624, jl_625, jl_1000, jI_add, jI_sub, jI_mul, jI_neg, jI_div, ie_mod, jI_leT, jI_leF, jI_ltT, jI_ltF, jI_eqT, jI_eqF, jI_cl, jI_inT, forall_eq, true_implies, false_implies, implies_true, not_true_eq_false, not_false_eq_true, true_and, and_true, b2_0, b2_z]
            refine yy_keep hl (fun n => ex (gr (L l) (2 * r) (n / 25) (n % 25))) (fun m m0 m1 => fl_r (by omega)) ?_
            dsimp only
            exact rl_mk (ls_rc hR hl (gr_o (L l) (2 * r)) (gr_c (hR.2.2.2.1 l) r) (fun j j0 j1 => rfl) (fun n _ _ => rfl))
          · simp (disch := omega) only [wY_grow_22, jl_0, jl_1, jl_2, jl_3, jl_4, jl_5, jl_6, jl_7, jl_8, jl_9, jl_12, jl_13, jl_16, jl_24, jl_25, jl_50, jl_168, jl_169, jl_624, jl_625, jl_1000, jI_add, jI_sub, jI_mul, jI_neg, jI_div, ie_mod, jI_leT, jI_leF, jI_ltT, jI_ltF, jI_eqT, jI_eqF, jI_cl, jI_inT, forall_eq, true_implies, false_implies, implies_true, not_true_eq_false, not_false_eq_true, true_and, and_true, b2_0, b2_z]
            refine yy_near hR.2.1 hR.2.2.1 (by omega) ?_
            simp (disch := omega) only [b2_nar]
            rw [fl_S _ _ h0 rfl]; exact ih
        · simp (disch := omega) only [wX_grow_107, jl_0, jl_1, jl_2, jl_3, jl_4, jl_5, jl_6, jl_7, jl_8, jl_9, jl_12, jl_13, jl_16, jl_24, jl_25, jl_50, jl_168, jl_169, jl_624, jl_625, jl_1000, jI_add, jI_sub, jI_mul, jI_neg, jI_div, ie_mod, jI_leT, jI_leF, jI_ltT, jI_ltF, jI_eqT, jI_eqF, jI_cl, jI_inT, forall_eq, true_implies, false_implies, implies_true, not_true_eq_false, not_false_eq_true, true_and, and_true, b2_0, b2_z]
          refine xx_g123 (H := fun i j => ex (gh (L l) (2 * r) i j)) (fun v v0 v1 => fl_r (by omega)) hl (by omega) ?_
          rw [wr_S _ _ (by omega) ?_]
          · exact ih
          · refine wd_c (fun t t0 t1 => ex_c ⟨?_, ?_⟩)
            · rintro ⟨v, va, vb, _, hv⟩
              obtain ⟨ht, u, ua, ub, hu⟩ := ex_t.mp hv
              exact ⟨⟨ht.1, ht.2, h0, h1⟩, u, v, ua, ub, va, vb, hu⟩
            · rintro ⟨ht, u, v, ua, ub, va, vb, hu⟩
              have hr : 0 ≤ u ∧ u < 25 ∧ 0 ≤ v ∧ v < 25 := by
                apply Classical.byContradiction
                intro z
                rw [hR.2.2.1 l u v z] at hu
                cases hu
              exact ⟨v, va, vb, ⟨by omega, by omega⟩, ex_T ⟨⟨ht.1, ht.2.1⟩, u, ua, ub, hu⟩⟩
      · simp (disch := omega) only [wX_grow_21, jl_0, jl_1, jl_2, jl_3, jl_4, jl_5, jl_6, jl_7, jl_8, jl_9, jl_12, jl_13, jl_16, jl_24, jl_25, jl_50, jl_168, jl_169, jl_624, jl_625, jl_1000, jI_add, jI_sub, jI_mul, jI_neg, jI_div, ie_mod, jI_leT, jI_leF, jI_ltT, jI_ltF, jI_eqT, jI_eqF, jI_cl, jI_inT, forall_eq, true_implies, false_implies, implies_true, not_true_eq_false, not_false_eq_true, true_and, and_true, b2_0, b2_z, hR.1 l i, gw_w hR.2.2.1]
        refine xx_g54 hR.2.2.1 (by omega) ?_
        rw [fl_s _ _ h0]; exact ih
    · by_cases h0 : r < 0
      · simp (disch := omega) only [wpX_grow, wpY_grow, xx_lay, yy_lay, jl_0, jl_1, jl_2, jl_3, jl_4, jl_5, jl_6, jl_7, jl_8, jl_9, jl_12, jl_13, jl_16, jl_24, jl_25, jl_50, jl_168, jl_169, jl_624, jl_625, jl_1000, jI_add, jI_sub, jI_mul, jI_neg, jI_div, ie_mod, jI_leT, jI_leF, jI_ltT, jI_ltF, jI_eqT, jI_eqF, jI_cl, jI_inT, forall_eq, true_implies, false_implies, implies_true, not_true_eq_false, not_false_eq_true, true_and, and_true, b2_0, b2_z]
        exact rl_mk hR
      · simp (disch := omega) only [wpX_grow, wpY_grow, xx_lay, yy_lay, jl_0, jl_1, jl_2, jl_3, jl_4, jl_5, jl_6, jl_7, jl_8, jl_9, jl_12, jl_13, jl_16, jl_24, jl_25, jl_50, jl_168, jl_169, jl_624, jl_625, jl_1000, jI_add, jI_sub, jI_mul, jI_neg, jI_div, ie_mod, jI_leT, jI_leF, jI_ltT, jI_ltF, jI_eqT, jI_eqF, jI_cl, jI_inT, forall_eq, true_implies, false_implies, implies_true, not_true_eq_false, not_false_eq_true, true_and, and_true, b2_0, b2_z]
        exact rl_mk hR
  · simp (disch := omega) only [wpX_grow, wpY_grow, xx_layF, yy_layF, jl_0, jl_1, jl_2, jl_3, jl_4, jl_5, jl_6, jl_7, jl_8, jl_9, jl_12, jl_13, jl_16, jl_24, jl_25, jl_50, jl_168, jl_169, jl_624, jl_625, jl_1000, jI_add, jI_sub, jI_mul, jI_neg, jI_div, ie_mod, jI_leT, jI_leF, jI_ltT, jI_ltF, jI_eqT, jI_eqF, jI_cl, jI_inT, forall_eq, true_implies, false_implies, implies_true, not_true_eq_false, not_false_eq_true, true_and, and_true, b2_0, b2_z]
    exact rl_mk hR
end
section
/-! ===== shrinking ===== -/
def sr (A : Int → Int → Bool) (f i j : Int) : Prop := ∀ u v : Int, i - f ≤ u → u ≤ i + f → j - f ≤ v → v ≤ j + f → A u v = true
theorem sr_o {A : Int → Int → Bool} (hO : SO A) {f : Int} (hf : 0 ≤ f) : SO (fun i j => ex (sr A f i j)) := fun i j h => ex_F (fun z => by
  have := z i j (by omega) (by omega) (by omega) (by omega)
  rw [hO i j h] at this
  cases this)
theorem sr_c {A : Int → Int → Bool} (hA : Cl A) {r : Int} (hr : 0 ≤ r) : Cl (fun i j => ex (sr A (2 * r) i j)) := by
  intro i j h
  simp only [ex_t] at *
  refine ⟨fun hi => ⟨fun u v a b d e => ?_, fun u v a b d e => ?_⟩, fun hj => ⟨fun u v a b d e => ?_, fun u v a b d e => ?_⟩⟩
  · by_cases z : u = i - 1 - 2 * r
    · have := ((hA _ _ (h (u + 1) v (by omega) (by omega) d e)).1 (by omega)).1
      rw [show u + 1 - 1 = u by omega] at this
      exact this
    · exact h u v (by omega) (by omega) d e
  · by_cases z : u = i + 1 + 2 * r
    · have := ((hA _ _ (h (u - 1) v (by omega) (by omega) d e)).1 (by omega)).2
      rw [show u - 1 + 1 = u by omega] at this
      exact this
    · exact h u v (by omega) (by omega) d e
  · by_cases z : v = j - 1 - 2 * r
    · have := ((hA _ _ (h u (v + 1) a b (by omega) (by omega))).2 (by omega)).1
      rw [show v + 1 - 1 = v by omega] at this
      exact this
    · exact h u v a b (by omega) (by omega)
  · by_cases z : v = j + 1 + 2 * r
    · have := ((hA _ _ (h u (v - 1) a b (by omega) (by omega))).2 (by omega)).2
      rw [show v - 1 + 1 = v by omega] at this
      exact this
    · exact h u v a b (by omega) (by omega)
section
variable {c bd : Int32} {rows drawn passed work inner crn rfr rto par cel opn rst : Nat → Int32}
variable {post : Int32 → SX → Prop}
def sh (A : Int → Int → Bool) (f i j : Int) : Prop := ∀ u : Int, i - f ≤ u → u ≤ i + f → A u j = true
theorem xx_s47 {L : Int → Int → Int → Bool} (hO : RO L) {J : Int32 → (Nat → Int32) → (Nat → Int32) → (Nat → Int32) → (Nat → Int32) → (Nat → Int32) → (Nat → Int32) → (Nat → Int32) → (Nat → Int32) → (Nat → Int32) → (Nat → Int32) → (Nat → Int32) → (Nat → Int32) → Prop} {l r j : Int} (h : 0 ≤ r ∧ r ≤ 6 ∧ 0 ≤ j ∧ j < 25)
    (hJ : J (jI (j + 1)) rows drawn passed work (upd inner j.toNat (wd (fun i => ex (sh (L l) (2 * r) i j)))) crn rfr rto par cel opn rst) : ∃ n, wX_shrink_47 post J (jI l) (jI r) (jI j) (wd (fun i => L l i j)) c bd rows drawn passed work inner crn rfr rto par cel opn rst n (wd (fun i => L l i j)) (jI 1) := by
  refine lj_a (fun n k s => wX_shrink_47 post J (jI l) (jI r) (jI j) (wd (fun i => L l i j)) c bd rows drawn passed work inner crn rfr rto par cel opn rst n s (jI k)) (fun k => wd (fun i => ex (∀ k' : Int, 0 ≤ k' → k' < k → (L l (i - k') j = true ∧ L l (i + k') j = true)))) 1 (2 * r + 1) ?_ (by omega) (fun n => ?_) (fun n k h0 h1 ih => ?_)
  · refine wd_c (fun i _ _ => (ex_b _).trans (ex_c ⟨?_, ?_⟩))
    · intro hL k' a b
      have : k' = 0 := by omega
      subst this
      rw [show i - 0 = i by omega, show i + 0 = i by omega]
      exact ⟨hL, hL⟩
    · intro hk
      have := (hk 0 (by omega) (by omega)).1
      rw [show i - 0 = i by omega] at this
      exact this
  · simp (disch := omega) only [wX_shrink_47, jl_0, jl_1, jl_2, jl_3, jl_4, jl_5, jl_6, jl_7, jl_8, jl_9, jl_12, jl_13, jl_16, jl_24, jl_25, jl_50, jl_168, jl_169, jl_624, jl_625, jl_1000, jI_add, jI_sub, jI_mul, jI_neg, jI_div, ie_mod, jI_leT, jI_leF, jI_ltT, jI_ltF, jI_eqT, jI_eqF, jI_cl, jI_inT, forall_eq, true_implies, false_implies, implies_true, not_true_eq_false, not_false_eq_true, true_and, and_true, b2_0, b2_z, wd_mF, wd_and]
    refine Eq.mp ?_ hJ
    congr 1
    refine congrArg (upd inner j.toNat) (wd_c (fun i i0 i1 => ?_))
    by_cases e : i < 25
    · rw [decide_eq_true e, Bool.and_true]
      refine ex_c ⟨?_, ?_⟩
      · intro hu k' a b
        exact ⟨hu _ (by omega) (by omega), hu _ (by omega) (by omega)⟩
      · intro hk u ua ub
        by_cases z : u ≤ i
        · have := (hk (i - u) (by omega) (by omega)).1
          rw [show i - (i - u) = u by omega] at this
          exact this
        · have := (hk (u - i) (by omega) (by omega)).2
          rw [show i + (u - i) = u by omega] at this
          exact this
    · rw [decide_eq_false e, Bool.and_false]
      refine ex_F (fun z => ?_)
      have := z i (by omega) (by omega)
      rw [hO l i j (by omega)] at this
      cases this
  · simp (disch := omega) only [wX_shrink_47, jl_0, jl_1, jl_2, jl_3, jl_4, jl_5, jl_6, jl_7, jl_8, jl_9, jl_12, jl_13, jl_16, jl_24, jl_25, jl_50, jl_168, jl_169, jl_624, jl_625, jl_1000, jI_add, jI_sub, jI_mul, jI_neg, jI_div, ie_mod, jI_leT, jI_leF, jI_ltT, jI_ltF, jI_eqT, jI_eqF, jI_cl, jI_inT, forall_eq, true_implies, false_implies, implies_true, not_true_eq_false, not_false_eq_true, true_and, and_true, b2_0, b2_z, wd_shl, wd_shr, wd_and]
    refine Eq.mp ?_ ih
    congr 1
    refine wd_c (fun i i0 i1 => ?_)
    rw [sg_l hO]
    have e2 : (if i + k < 32 then L l (i + k) j else L l 31 j) = L l (i + k) j := by
      by_cases e : i + k < 32
      · rw [if_pos e]
      · rw [if_neg e, hO l 31 j (by omega), hO l (i + k) j (by omega)]
    rw [e2, ex_b (L l (i - k) j), ex_b (L l (i + k) j), ex_and, ex_and]
    refine ex_c ⟨?_, ?_⟩
    · intro hk
      exact ⟨fun k' a b => hk k' a (by omega), hk k (by omega) (by omega)⟩
    · rintro ⟨hk, hk2⟩ k' a b
      by_cases z : k' = k
      · subst z; exact hk2
      · exact hk k' a (by omega)
theorem xx_s134 {H : Int → Int → Bool} (hH : ∀ v : Int, 0 ≤ v → v < 25 → inner v.toNat = wd (fun i => H i v)) {J : Int32 → (Nat → Int32) → (Nat → Int32) → (Nat → Int32) → (Nat → Int32) → (Nat → Int32) → (Nat → Int32) → (Nat → Int32) → (Nat → Int32) → (Nat → Int32) → (Nat → Int32) → (Nat → Int32) → (Nat → Int32) → Prop} {l r j : Int} (hl : 0 ≤ l ∧ l < 6) (h : 0 ≤ r ∧ r ≤ 6 ∧ 2 * r ≤ j ∧ j ≤ 24 - 2 * r)
    (hJ : J (jI (j + 1)) (upd rows (25 * l + j).toNat (wd (fun i => ex (i < 25 ∧ ∀ v : Int, j - 2 * r ≤ v → v ≤ j + 2 * r → H i v = true)))) drawn passed work inner crn rfr rto par cel opn rst) : ∃ n, wX_shrink_134 post J (jI l) (jI r) (jI j) c bd rows drawn passed work inner crn rfr rto par cel opn rst n 33554431 (jI (j - 2 * r)) := by
  refine lj_a (fun n k s => wX_shrink_134 post J (jI l) (jI r) (jI j) c bd rows drawn passed work inner crn rfr rto par cel opn rst n s (jI k)) (fun k => wd (fun i => ex (i < 25 ∧ ∀ v : Int, j - 2 * r ≤ v → v < k → H i v = true))) (j - 2 * r) (j + 2 * r + 1) ?_ (by omega) (fun n => ?_) (fun n k h0 h1 ih => ?_)
  · refine wd_mF.trans (wd_c (fun i _ _ => ex_d.trans (ex_c ⟨fun z => ⟨z, fun v a b => by omega⟩, fun z => z.1⟩)))
  · simp (disch := omega) only [wX_shrink_134, wX_shrink_167, jl_0, jl_1, jl_2, jl_3, jl_4, jl_5, jl_6, jl_7, jl_8, jl_9, jl_12, jl_13, jl_16, jl_24, jl_25, jl_50, jl_168, jl_169, jl_624, jl_625, jl_1000, jI_add, jI_sub, jI_mul, jI_neg, jI_div, ie_mod, jI_leT, jI_leF, jI_ltT, jI_ltF, jI_eqT, jI_eqF, jI_cl, jI_inT, forall_eq, true_implies, false_implies, implies_true, not_true_eq_false, not_false_eq_true, true_and, and_true, b2_0, b2_z]
    refine Eq.mp ?_ hJ
    congr 1
    refine congrArg (upd rows (25 * l + j).toNat) (wd_c (fun i i0 i1 => ?_))
    exact ex_c ⟨fun z => ⟨z.1, fun v a b => z.2 v a (by omega)⟩, fun z => ⟨z.1, fun v a b => z.2 v a (by omega)⟩⟩
  · simp (disch := omega) only [wX_shrink_134, wX_shrink_167, jl_0, jl_1, jl_2, jl_3, jl_4, jl_5, jl_6, jl_7, jl_8, jl_9, jl_12, jl_13, jl_16, jl_24, jl_25, jl_50, jl_168, jl_169, jl_624, jl_625, jl_1000, jI_add, jI_sub, jI_mul, jI_neg, jI_div, ie_mod, jI_leT, jI_leF, jI_ltT, jI_ltF, jI_eqT, jI_eqF, jI_cl, jI_inT, forall_eq, true_implies, false_implies, implies_true, not_true_eq_false, not_false_eq_true, true_and, and_true, b2_0, b2_z, hH, wd_and]
    refine br_c (fun hz => ?_) (fun hz => ?_)
    · refine Eq.mp ?_ hJ
      congr 1
      refine congrArg (upd rows (25 * l + j).toNat) (wd_c (fun i i0 i1 => ?_))
      rw [wd_eq0] at hz
      rw [hz i i0 i1]
      refine ex_F (fun z => ?_)
      exact ex_f.mp (hz i i0 i1) ⟨z.1, fun v a b => z.2 v a (by omega)⟩
    · refine Eq.mp ?_ ih
      congr 1
      refine wd_c (fun i i0 i1 => ?_)
      rw [ex_b (H i k), ex_and]
      refine ex_c ⟨?_, ?_⟩
      · rintro ⟨a, b⟩
        exact ⟨⟨a, fun v va vb => b v va (by omega)⟩, b k (by omega) (by omega)⟩
      · rintro ⟨⟨a, b⟩, d⟩
        refine ⟨a, fun v va vb => ?_⟩
        by_cases z : v = k
        · subst z; exact d
        · exact b v va (by omega)
end
section
variable {cy : Int32} {lys fil mad st px py lab : Nat → Int32}
variable {post : Int32 → Prop}
theorem yy_surr {L : Int → Int → Int → Bool} (hY : RY L lys) (hO : RO L) {l i j f : Int} (h : 0 ≤ l ∧ l < 6 ∧ 0 ≤ i ∧ i < 25 ∧ 0 ≤ j ∧ j < 25 ∧ 0 ≤ f ∧ f < 100) (hp : post (b2 (ex (sr (L l) f i j)))) : wpY_surrounded post (cy, lys, fil, mad, st, px, py, lab) (jI l) (jI i) (jI j) (jI f) := by
  have h1 : sr (L l) f i j → post (jI 1) := fun z => by rw [ex_T z] at hp; exact hp
  have h0 : ¬ sr (L l) f i j → post (jI 0) := fun z => by rw [ex_F z] at hp; exact hp
  have fin : ∀ u v : Int, i - f ≤ u → u ≤ i + f → j - f ≤ v → v ≤ j + f → L l u v = false → post (jI 0) := fun u v a b d e g => h0 (fun z => by
    rw [z u v a b d e] at g; cases g)
  by_cases c1 : i < f
  · have := fin (i - f) j (by omega) (by omega) (by omega) (by omega) (hO _ _ _ (by omega))
    simp (disch := omega) only [wpY_surrounded, jl_0, jl_1, jl_2, jl_3, jl_4, jl_5, jl_6, jl_7, jl_8, jl_9, jl_12, jl_13, jl_16, jl_24, jl_25, jl_50, jl_168, jl_169, jl_624, jl_625, jl_1000, jI_add, jI_sub, jI_mul, jI_neg, jI_div, ie_mod, jI_leT, jI_leF, jI_ltT, jI_ltF, jI_eqT, jI_eqF, jI_cl, jI_inT, forall_eq, true_implies, false_implies, implies_true, not_true_eq_false, not_false_eq_true, true_and, and_true, b2_0, b2_z]; exact this
  · by_cases c2 : 24 - f < i
    · have := fin (i + f) j (by omega) (by omega) (by omega) (by omega) (hO _ _ _ (by omega))
      simp (disch := omega) only [wpY_surrounded, jl_0, jl_1, jl_2, jl_3, jl_4, jl_5, jl_6, jl_7, jl_8, jl_9, jl_12, jl_13, jl_16, jl_24, jl_25, jl_50, jl_168, jl_169, jl_624, jl_625, jl_1000, jI_add, jI_sub, jI_mul, jI_neg, jI_div, ie_mod, jI_leT, jI_leF, jI_ltT, jI_ltF, jI_eqT, jI_eqF, jI_cl, jI_inT, forall_eq, true_implies, false_implies, implies_true, not_true_eq_false, not_false_eq_true, true_and, and_true, b2_0, b2_z]; exact this
    · by_cases c3 : j < f
      · have := fin i (j - f) (by omega) (by omega) (by omega) (by omega) (hO _ _ _ (by omega))
        simp (disch := omega) only [wpY_surrounded, jl_0, jl_1, jl_2, jl_3, jl_4, jl_5, jl_6, jl_7, jl_8, jl_9, jl_12, jl_13, jl_16, jl_24, jl_25, jl_50, jl_168, jl_169, jl_624, jl_625, jl_1000, jI_add, jI_sub, jI_mul, jI_neg, jI_div, ie_mod, jI_leT, jI_leF, jI_ltT, jI_ltF, jI_eqT, jI_eqF, jI_cl, jI_inT, forall_eq, true_implies, false_implies, implies_true, not_true_eq_false, not_false_eq_true, true_and, and_true, b2_0, b2_z]; exact this
      · by_cases c4 : 24 - f < j
        · have := fin i (j + f) (by omega) (by omega) (by omega) (by omega) (hO _ _ _ (by omega))
          simp (disch := omega) only [wpY_surrounded, jl_0, jl_1, jl_2, jl_3, jl_4, jl_5, jl_6, jl_7, jl_8, jl_9, jl_12, jl_13, jl_16, jl_24, jl_25, jl_50, jl_168, jl_169, jl_624, jl_625, jl_1000, jI_add, jI_sub, jI_mul, jI_neg, jI_div, ie_mod, jI_leT, jI_leF, jI_ltT, jI_ltF, jI_eqT, jI_eqF, jI_cl, jI_inT, forall_eq, true_implies, false_implies, implies_true, not_true_eq_false, not_false_eq_true, true_and, and_true, b2_0, b2_z]; exact this
        · simp (disch := omega) only [wpY_surrounded, jl_0, jl_1, jl_2, jl_3, jl_4, jl_5, jl_6, jl_7, jl_8, jl_9, jl_12, jl_13, jl_16, jl_24, jl_25, jl_50, jl_168, jl_169, jl_624, jl_625, jl_1000, jI_add, jI_sub, jI_mul, jI_neg, jI_div, ie_mod, jI_leT, jI_leF, jI_ltT, jI_ltF, jI_eqT, jI_eqF, jI_cl, jI_inT, forall_eq, true_implies, false_implies, implies_true, not_true_eq_false, not_false_eq_true, true_and, and_true, b2_0, b2_z]
          refine lj_i (fun n u (_ : Unit) => wY_surrounded_38 post (jI l) (jI i) (jI j) (jI f) cy lys fil mad st px py lab n (jI u)) (fun u _ => ∀ u' v' : Int, i - f ≤ u' → u' < u → j - f ≤ v' → v' ≤ j + f → L l u' v' = true) (i - f) (i + f + 1) (s0 := ()) ?_ (by omega) (fun n _ hI => ?_) (fun n u _ hu0 hu1 hI ih => ?_)
          · intro u' v' a b; omega
          · have := h1 (fun u v a b d e => hI u v a (by omega) d e)
            simp (disch := omega) only [wY_surrounded_38, jl_0, jl_1, jl_2, jl_3, jl_4, jl_5, jl_6, jl_7, jl_8, jl_9, jl_12, jl_13, jl_16, jl_24, jl_25, jl_50, jl_168, jl_169, jl_624, jl_625, jl_1000, jI_add, jI_sub, jI_mul, jI_neg, jI_div, ie_mod, jI_leT, jI_leF, jI_ltT, jI_ltF, jI_eqT, jI_eqF, jI_cl, jI_inT, forall_eq, true_implies, false_implies, implies_true, not_true_eq_false, not_false_eq_true, true_and, and_true, b2_0, b2_z]; exact this
          · simp (disch := omega) only [wY_surrounded_38, jl_0, jl_1, jl_2, jl_3, jl_4, jl_5, jl_6, jl_7, jl_8, jl_9, jl_12, jl_13, jl_16, jl_24, jl_25, jl_50, jl_168, jl_169, jl_624, jl_625, jl_1000, jI_add, jI_sub, jI_mul, jI_neg, jI_div, ie_mod, jI_leT, jI_leF, jI_ltT, jI_ltF, jI_eqT, jI_eqF, jI_cl, jI_inT, forall_eq, true_implies, false_implies, implies_true, not_true_eq_false, not_false_eq_true, true_and, and_true, b2_0, b2_z]
            refine lj_i (fun n53 v (_ : Unit) => wY_surrounded_53 post (wY_surrounded_38 post (jI l) (jI i) (jI j) (jI f) cy lys fil mad st px py lab n) (jI l) (jI i) (jI j) (jI f) (jI u) cy lys fil mad st px py lab n53 (jI v)) (fun v _ => ∀ v' : Int, j - f ≤ v' → v' < v → L l u v' = true) (j - f) (j + f + 1) (s0 := ()) ?_ (by omega) (fun n50 _ hI2 => ?_) (fun n50 v _ hv0 hv1 hI2 ih2 => ?_)
            · intro v' a b; omega
            · have := ih () (fun u' v' a b d e => by
                by_cases z : u' = u
                · subst z; exact hI2 v' d (by omega)
                · exact hI u' v' a (by omega) d e)
              simp (disch := omega) only [wY_surrounded_53, jl_0, jl_1, jl_2, jl_3, jl_4, jl_5, jl_6, jl_7, jl_8, jl_9, jl_12, jl_13, jl_16, jl_24, jl_25, jl_50, jl_168, jl_169, jl_624, jl_625, jl_1000, jI_add, jI_sub, jI_mul, jI_neg, jI_div, ie_mod, jI_leT, jI_leF, jI_ltT, jI_ltF, jI_eqT, jI_eqF, jI_cl, jI_inT, forall_eq, true_implies, false_implies, implies_true, not_true_eq_false, not_false_eq_true, true_and, and_true, b2_0, b2_z]; exact this
            · simp (disch := omega) only [wY_surrounded_53, jl_0, jl_1, jl_2, jl_3, jl_4, jl_5, jl_6, jl_7, jl_8, jl_9, jl_12, jl_13, jl_16, jl_24, jl_25, jl_50, jl_168, jl_169, jl_624, jl_625, jl_1000, jI_add, jI_sub, jI_mul, jI_neg, jI_div, ie_mod, jI_leT, jI_leF, jI_ltT, jI_ltF, jI_eqT, jI_eqF, jI_cl, jI_inT, forall_eq, true_implies, false_implies, implies_true, not_true_eq_false, not_false_eq_true, true_and, and_true, b2_0, b2_z, hY l u v]
              refine tf_c (fun e => fin u v (by omega) (by omega) (by omega) (by omega) e) (fun e => ?_)
              exact ih2 () (fun v' a b => by
                by_cases z : v' = v
                · subst z; exact e
                · exact hI2 v' a (by omega))
end
theorem i_vc_shrink {k : Nat} {u : SX} {v : SY} (I : i_Rel k u v) (hk : k + 5 ≤ 2560) (v1 : Int32) (v2 : Int32) : wpX_shrink (fun r u' => wpY_shrink (fun r' v' => r' = r ∧ i_Rel (k + 5) u' v') v v1 v2) u v1 v2 := by
  refine rl_el (P := fun u v => wpX_shrink (fun r u' => wpY_shrink (fun r' v' => r' = r ∧ i_Rel (k + 5) u' v') v v1 v2) u v1 v2) ?_ I
  intro L c xs ys bd rows drawn passed work inner crn rfr rto par cel opn rst lys fil mad st px py lab hR
  obtain ⟨l, a1, a2, rfl⟩ := jI_ex v1
  obtain ⟨r, b1, b2', rfl⟩ := jI_ex v2
  by_cases hl : 0 ≤ l ∧ l < 6
  · by_cases hh : 0 ≤ r ∧ r ≤ 6
    · simp (disch := omega) only [wpX_shrink, xx_lay, jl_0, jl_1, jl_2, jl_3, jl_4, jl_5, jl_6, jl_7, jl_8, jl_9, jl_12, jl_13, jl_16, jl_24, jl_25, jl_50, jl_168, jl_169, jl_624, jl_625, jl_1000, jI_add, jI_sub, jI_mul, jI_neg, jI_div, ie_mod, jI_leT, jI_leF, jI_ltT, jI_ltF, jI_eqT, jI_eqF, jI_cl, jI_inT, forall_eq, true_implies, false_implies, implies_true, not_true_eq_false, not_false_eq_true, true_and, and_true, b2_0, b2_z]
      refine lj_a (fun n i s => wX_shrink_21 _ (jI l) (jI r) (jI c) bd n (jI i) rows drawn passed work s crn rfr rto par cel opn rst) (fun i => fl inner i (fun j => wd (fun i => ex (sh (L l) (2 * r) i j)))) 0 25 (fl_0 _ _).symm (by omega) (fun n => ?_) (fun n i h0 h1 ih => ?_)
      · simp (disch := omega) only [wX_shrink_21, jl_0, jl_1, jl_2, jl_3, jl_4, jl_5, jl_6, jl_7, jl_8, jl_9, jl_12, jl_13, jl_16, jl_24, jl_25, jl_50, jl_168, jl_169, jl_624, jl_625, jl_1000, jI_add, jI_sub, jI_mul, jI_neg, jI_div, ie_mod, jI_leT, jI_leF, jI_ltT, jI_ltF, jI_eqT, jI_eqF, jI_cl, jI_inT, forall_eq, true_implies, false_implies, implies_true, not_true_eq_false, not_false_eq_true, true_and, and_true, b2_0, b2_z]
        refine lj_a (fun n i s => wX_shrink_96 _ (jI l) (jI r) (jI c) bd n (jI i) s drawn passed work (fl inner 25 (fun j => wd (fun i => ex (sh (L l) (2 * r) i j)))) crn rfr rto par cel opn rst) (fun i => wr rows (25 * l) i (fun j => wd (fun i => ex (sr (L l) (2 * r) i j)))) 0 25 (wr_0 _ _ _).symm (by omega) (fun n => ?_) (fun n i h0 h1 ih => ?_)
        · simp (disch := omega) only [wX_shrink_96, jl_0, jl_1, jl_2, jl_3, jl_4, jl_5, jl_6, jl_7, jl_8, jl_9, jl_12, jl_13, jl_16, jl_24, jl_25, jl_50, jl_168, jl_169, jl_624, jl_625, jl_1000, jI_add, jI_sub, jI_mul, jI_neg, jI_div, ie_mod, jI_leT, jI_leF, jI_ltT, jI_ltF, jI_eqT, jI_eqF, jI_cl, jI_inT, forall_eq, true_implies, false_implies, implies_true, not_true_eq_false, not_false_eq_true, true_and, and_true, b2_0, b2_z]
          simp (disch := omega) only [wpY_shrink, yy_lay, jl_0, jl_1, jl_2, jl_3, jl_4, jl_5, jl_6, jl_7, jl_8, jl_9, jl_12, jl_13, jl_16, jl_24, jl_25, jl_50, jl_168, jl_169, jl_624, jl_625, jl_1000, jI_add, jI_sub, jI_mul, jI_neg, jI_div, ie_mod, jI_leT, jI_leF, jI_ltT, jI_ltF, jI_eqT, jI_eqF, jI_cl, jI_inT, forall_eq, true_implies, false_implies, implies_true, not_true_eq_false, not_false_eq_true, true_and, and_true, b2_0, b2_z]
          refine lj_a (fun n i s => wY_shrink_22 _ (jI l) (jI r) (jI c) n (jI i) lys fil s st px py lab) (fun i => fl mad i (fun n => b2 (ex (sr (L l) (2 * r) (n / 25) (n % 25))))) 0 625 (fl_0 _ _).symm (by omega) (fun n => ?_) (fun n i h0 h1 ih => ?_)
          · simp (disch := omega) only [wY_shrink_22, jl_0, jl_1, jl_2, jl_3, jl_4, jl_5, jl_6, jl_7, jl_8, jl_9, jl_12, jl_13, jl_16, jl_24, jl_25, jl_50, jl_168, jl_169, jl_624, jl_625, jl_1000, jI_add, jI_sub, jI_mul, jI_neg, jI_div, ie_mod, jI_leT, jI_leF, jI_ltT, jI_ltF, jI_eqT, jI_eqF, jI_cl, jI_inT, forall_eq, true_implies, false_implies, implies_true, not_true_eq_false, not_false_eq_true, true_and, and_true, b2_0, b2_z]
            refine yy_keep hl (fun n => ex (sr (L l) (2 * r) (n / 25) (n % 25))) (fun m m0 m1 => fl_r (by omega)) ?_
            dsimp only
            exact rl_mk (ls_rc hR hl (sr_o (hR.2.2.1 l) (by omega)) (sr_c (hR.2.2.2.1 l) (by omega)) (fun j j0 j1 => rfl) (fun n _ _ => rfl))
          · simp (disch := omega) only [wY_shrink_22, jl_0, jl_1, jl_2, jl_3, jl_4, jl_5, jl_6, jl_7, jl_8, jl_9, jl_12, jl_13, jl_16, jl_24, jl_25, jl_50, jl_168, jl_169, jl_624, jl_625, jl_1000, jI_add, jI_sub, jI_mul, jI_neg, jI_div, ie_mod, jI_leT, jI_leF, jI_ltT, jI_ltF, jI_eqT, jI_eqF, jI_cl, jI_inT, forall_eq, true_implies, false_implies, implies_true, not_true_eq_false, not_false_eq_true, true_and, and_true, b2_0, b2_z]
            refine yy_surr hR.2.1 hR.2.2.1 (by omega) ?_
            simp (disch := omega) only [b2_nar]
            rw [fl_S _ _ h0 rfl]; exact ih
        · by_cases hin : 2 * r ≤ i ∧ i ≤ 24 - 2 * r
          · simp (disch := omega) only [wX_shrink_96, jl_0, jl_1, jl_2, jl_3, jl_4, jl_5, jl_6, jl_7, jl_8, jl_9, jl_12, jl_13, jl_16, jl_24, jl_25, jl_50, jl_168, jl_169, jl_624, jl_625, jl_1000, jI_add, jI_sub, jI_mul, jI_neg, jI_div, ie_mod, jI_leT, jI_leF, jI_ltT, jI_ltF, jI_eqT, jI_eqF, jI_cl, jI_inT, forall_eq, true_implies, false_implies, implies_true, not_true_eq_false, not_false_eq_true, true_and, and_true, b2_0, b2_z]
            refine xx_s134 (H := fun i j => ex (sh (L l) (2 * r) i j)) (fun v v0 v1 => fl_r (by omega)) hl (by omega) ?_
            rw [wr_S _ _ (by omega) ?_]
            · exact ih
            · refine wd_c (fun t t0 t1 => ex_c ⟨?_, ?_⟩)
              · rintro ⟨_, hv⟩ u v ua ub va vb
                exact ex_t.mp (hv v va vb) u ua ub
              · intro hs
                refine ⟨?_, fun v va vb => ex_T (fun u ua ub => hs u v ua ub va vb)⟩
                apply Classical.byContradiction
                intro z
                have := hs t i (by omega) (by omega) (by omega) (by omega)
                rw [hR.2.2.1 l t i (by omega)] at this
                cases this
          · have e0 : jI 0 = wd (fun t => ex (sr (L l) (2 * r) t i)) := by
              refine wd_J0.trans (wd_c (fun t t0 t1 => (ex_F (fun z => ?_)).symm))
              by_cases q : i < 2 * r
              · have := z t (i - 2 * r) (by omega) (by omega) (by omega) (by omega)
                rw [hR.2.2.1 l _ _ (by omega)] at this
                cases this
              · have := z t (i + 2 * r) (by omega) (by omega) (by omega) (by omega)
                rw [hR.2.2.1 l _ _ (by omega)] at this
                cases this
            have fin : ∃ n134, wX_shrink_134 (fun r0 u' => wpY_shrink (fun r' v' => r' = r0 ∧ i_Rel (k + 5) u' v') (jI c, lys, fil, mad, st, px, py, lab) (jI l) (jI r)) (wX_shrink_96 (fun r0 u' => wpY_shrink (fun r' v' => r' = r0 ∧ i_Rel (k + 5) u' v') (jI c, lys, fil, mad, st, px, py, lab) (jI l) (jI r)) (jI l) (jI r) (jI c) bd n) (jI l) (jI r) (jI i) (jI c) bd (wr rows (25 * l) i (fun j => wd (fun i => ex (sr (L l) (2 * r) i j)))) drawn passed work (fl inner 25 (fun j => wd (fun i => ex (sh (L l) (2 * r) i j)))) crn rfr rto par cel opn rst n134 (jI 0) (jI (i - 2 * r)) := by
              refine ⟨1, ?_⟩
              simp (disch := omega) only [wX_shrink_134, wX_shrink_167, jl_0, jl_1, jl_2, jl_3, jl_4, jl_5, jl_6, jl_7, jl_8, jl_9, jl_12, jl_13, jl_16, jl_24, jl_25, jl_50, jl_168, jl_169, jl_624, jl_625, jl_1000, jI_add, jI_sub, jI_mul, jI_neg, jI_div, ie_mod, jI_leT, jI_leF, jI_ltT, jI_ltF, jI_eqT, jI_eqF, jI_cl, jI_inT, forall_eq, true_implies, false_implies, implies_true, not_true_eq_false, not_false_eq_true, true_and, and_true, b2_0, b2_z]
              rw [wr_S _ _ (by omega) e0]; exact ih
            by_cases q : i < 2 * r
            · simp (disch := omega) only [wX_shrink_96, wX_shrink_119, jl_0, jl_1, jl_2, jl_3, jl_4, jl_5, jl_6, jl_7, jl_8, jl_9, jl_12, jl_13, jl_16, jl_24, jl_25, jl_50, jl_168, jl_169, jl_624, jl_625, jl_1000, jI_add, jI_sub, jI_mul, jI_neg, jI_div, ie_mod, jI_leT, jI_leF, jI_ltT, jI_ltF, jI_eqT, jI_eqF, jI_cl, jI_inT, forall_eq, true_implies, false_implies, implies_true, not_true_eq_false, not_false_eq_true, true_and, and_true, b2_0, b2_z]
              exact fin
            · simp (disch := omega) only [wX_shrink_96, wX_shrink_119, jl_0, jl_1, jl_2, jl_3, jl_4, jl_5, jl_6, jl_7, jl_8, jl_9, jl_12, jl_13, jl_16, jl_24, jl_25, jl_50, jl_168, jl_169, jl_624, jl_625, jl_1000, jI_add, jI_sub, jI_mul, jI_neg, jI_div, ie_mod, jI_leT, jI_leF, jI_ltT, jI_ltF, jI_eqT, jI_eqF, jI_cl, jI_inT, forall_eq, true_implies, false_implies, implies_true, not_true_eq_false, not_false_eq_true, true_and, and_true, b2_0, b2_z]
              exact fin
      · simp (disch := omega) only [wX_shrink_21, jl_0, jl_1, jl_2, jl_3, jl_4, jl_5, jl_6, jl_7, jl_8, jl_9, jl_12, jl_13, jl_16, jl_24, jl_25, jl_50, jl_168, jl_169, jl_624, jl_625, jl_1000, jI_add, jI_sub, jI_mul, jI_neg, jI_div, ie_mod, jI_leT, jI_leF, jI_ltT, jI_ltF, jI_eqT, jI_eqF, jI_cl, jI_inT, forall_eq, true_implies, false_implies, implies_true, not_true_eq_false, not_false_eq_true, true_and, and_true, b2_0, b2_z, hR.1 l i]
        refine xx_s47 hR.2.2.1 (by omega) ?_
        rw [fl_s _ _ h0]; exact ih
    · by_cases h0 : r < 0
      · simp (disch := omega) only [wpX_shrink, wpY_shrink, xx_lay, yy_lay, jl_0, jl_1, jl_2, jl_3, jl_4, jl_5, jl_6, jl_7, jl_8, jl_9, jl_12, jl_13, jl_16, jl_24, jl_25, jl_50, jl_168, jl_169, jl_624, jl_625, jl_1000, jI_add, jI_sub, jI_mul, jI_neg, jI_div, ie_mod, jI_leT, jI_leF, jI_ltT, jI_ltF, jI_eqT, jI_eqF, jI_cl, jI_inT, forall_eq, true_implies, false_implies, implies_true, not_true_eq_false, not_false_eq_true, true_and, and_true, b2_0, b2_z]
        exact rl_mk hR
      · simp (disch := omega) only [wpX_shrink, wpY_shrink, xx_lay, yy_lay, jl_0, jl_1, jl_2, jl_3, jl_4, jl_5, jl_6, jl_7, jl_8, jl_9, jl_12, jl_13, jl_16, jl_24, jl_25, jl_50, jl_168, jl_169, jl_624, jl_625, jl_1000, jI_add, jI_sub, jI_mul, jI_neg, jI_div, ie_mod, jI_leT, jI_leF, jI_ltT, jI_ltF, jI_eqT, jI_eqF, jI_cl, jI_inT, forall_eq, true_implies, false_implies, implies_true, not_true_eq_false, not_false_eq_true, true_and, and_true, b2_0, b2_z]
        exact rl_mk hR
  · simp (disch := omega) only [wpX_shrink, wpY_shrink, xx_layF, yy_layF, jl_0, jl_1, jl_2, jl_3, jl_4, jl_5, jl_6, jl_7, jl_8, jl_9, jl_12, jl_13, jl_16, jl_24, jl_25, jl_50, jl_168, jl_169, jl_624, jl_625, jl_1000, jI_add, jI_sub, jI_mul, jI_neg, jI_div, ie_mod, jI_leT, jI_leF, jI_ltT, jI_ltF, jI_eqT, jI_eqF, jI_cl, jI_inT, forall_eq, true_implies, false_implies, implies_true, not_true_eq_false, not_false_eq_true, true_and, and_true, b2_0, b2_z]
    exact rl_mk hR
end
section
/-! ===== bytes and shorts ===== -/
theorem jI_b8 {a : Int} (h : -128 ≤ a ∧ a < 128) : (jI a).toInt8.toInt32 = jI a := by
  unfold jI
  rw [Int32.toInt8_ofInt]
  exact Int8.toInt32_ofInt (by rw [Int8.toInt_minValue]; omega) (by rw [Int8.toInt_maxValue]; omega)
theorem jI_s16 {a : Int} (h : -32768 ≤ a ∧ a < 32768) : (jI a).toInt16.toInt32 = jI a := by
  unfold jI
  rw [Int32.toInt16_ofInt]
  exact Int16.toInt32_ofInt (by rw [Int16.toInt_minValue]; omega) (by rw [Int16.toInt_maxValue]; omega)
theorem jI_nb {a : Int} (h : -128 ≤ a ∧ a < 128) : vp_nar .byte (jI a) = jI a := by rw [vp_nar_byte, jI_b8 h]
theorem jI_ns {a : Int} (h : -32768 ≤ a ∧ a < 32768) : vp_nar .short (jI a) = jI a := by rw [vp_nar_short, jI_s16 h]
/-! ===== every second cell ===== -/
def we (f : Nat → Int32) (o m : Int) (g : Int → Int32) : Nat → Int32 := fun k => if (o ≤ (k : Int) ∧ (k : Int) < o + 2 * m) ∧ ((k : Int) - o) % 2 = 0 then g k else f k
theorem we_0 (f : Nat → Int32) (o : Int) (g : Int → Int32) : we f o 0 g = f := by
  funext k; unfold we; rw [if_neg (by omega)]
theorem we_S (f : Nat → Int32) {o m : Int} (g : Int → Int32) {x : Int32} (h : 0 ≤ o ∧ 0 ≤ m) (hx : x = g (o + 2 * m)) : upd (we f o m g) (o + 2 * m).toNat x = we f o (m + 1) g := by
  funext k; unfold upd we
  by_cases e : k = (o + 2 * m).toNat
  · rw [if_pos e, if_pos (by omega), hx]; congr 1; omega
  · rw [if_neg e]
    by_cases e2 : (o ≤ (k : Int) ∧ (k : Int) < o + 2 * m) ∧ ((k : Int) - o) % 2 = 0
    · rw [if_pos e2, if_pos (by omega)]
    · rw [if_neg e2, if_neg (by omega)]
theorem we_r {f : Nat → Int32} {o m : Int} {g : Int → Int32} {z : Int} (h : 0 ≤ z ∧ o ≤ z ∧ z < o + 2 * m ∧ (z - o) % 2 = 0) : we f o m g z.toNat = g z := by
  unfold we; rw [if_pos (by omega)]; congr 1; omega
theorem we_o {f : Nat → Int32} {o m : Int} {g : Int → Int32} {z : Int} (h : 0 ≤ z ∧ (z < o ∨ o + 2 * m ≤ z ∨ (z - o) % 2 = 1)) : we f o m g z.toNat = f z.toNat := by
  unfold we; rw [if_neg (by omega)]
theorem bits_t : ∀ b, b < 25 → ∀ a, a ≤ b → (jI 2 <<< (nI b &&& 31)) - (jI 1 <<< (nI a &&& 31)) = wd (fun i => decide ((a : Int) ≤ i ∧ i ≤ (b : Int))) := by decide +kernel
theorem xx_bits {post : Int32 → Prop} {a b : Int} (h : 0 ≤ a ∧ a ≤ b ∧ b < 25) : wpX_bits post (jI a) (jI b) = post (wd (fun i => decide (a ≤ i ∧ i ≤ b))) := by
  obtain ⟨m, rfl⟩ := Int.eq_ofNat_of_zero_le h.1
  obtain ⟨n, rfl⟩ := Int.eq_ofNat_of_zero_le (show 0 ≤ b by omega)
  have := bits_t n (by omega) m (by omega)
  simp only [wpX_bits, jl_1, jl_2]
  rw [← jI_nI, ← jI_nI, this]
theorem stp_cl (xs ys : Int → Int) (k : Int) : Cl (fun i j => stp xs ys k i j) := by
  intro i j h
  unfold stp at *
  simp only [decide_eq_true_eq] at *
  refine ⟨fun hi => ⟨?_, ?_⟩, fun hj => ⟨?_, ?_⟩⟩
  all_goals refine ⟨?_, ?_⟩
  all_goals omega
theorem onP_cl (xs ys : Int → Int) (m : Int) : Cl (fun i j => onP xs ys m i j) := by
  intro i j h
  unfold onP at *
  rw [ac_t] at h
  rcases h with h | ⟨k, k0, k1, h⟩
  · have := of_decide_eq_true h
    exact ⟨fun z => by omega, fun z => by omega⟩
  · have := stp_cl xs ys k i j h
    refine ⟨fun z => ⟨(ac_t _ _ _).mpr (Or.inr ⟨k, k0, k1, (this.1 z).1⟩), (ac_t _ _ _).mpr (Or.inr ⟨k, k0, k1, (this.1 z).2⟩)⟩, fun z => ⟨(ac_t _ _ _).mpr (Or.inr ⟨k, k0, k1, (this.2 z).1⟩), (ac_t _ _ _).mpr (Or.inr ⟨k, k0, k1, (this.2 z).2⟩)⟩⟩
theorem onP_o {xs ys : Int → Int} {m : Int} (h : ∀ k : Int, 0 ≤ k → k ≤ m → 0 ≤ xs k ∧ xs k ≤ 12 ∧ 0 ≤ ys k ∧ ys k ≤ 12) (hm : 0 ≤ m) : SO (fun i j => onP xs ys m i j) := by
  intro i j hij
  show onP xs ys m i j = false
  cases e : onP xs ys m i j with
  | false => rfl
  | true =>
    exfalso
    unfold onP at e
    rw [ac_t] at e
    rcases e with e | ⟨k, k0, k1, e⟩
    · have h1 := of_decide_eq_true e
      have h2 := h 0 (by omega) hm
      omega
    · unfold stp at e
      have h1 := of_decide_eq_true e
      have h2 := h k k0 (by omega)
      have h3 := h (k + 1) (by omega) (by omega)
      omega
section
variable {c bd : Int32} {rows drawn passed work inner crn rfr rto par cel opn rst : Nat → Int32}
theorem xx_add {post : SX → Prop} {m x y : Int} (h : 0 ≤ m ∧ m ≤ 23 ∧ 0 ≤ x ∧ x ≤ 12 ∧ 0 ≤ y ∧ y ≤ 12) : wpX_addCorner post (jI m, bd, rows, drawn, passed, work, inner, crn, rfr, rto, par, cel, opn, rst) (jI x) (jI y) = post (jI (m + 1), bd, rows, drawn, passed, work, inner, upd (upd crn (2 * m).toNat (jI x)) (2 * m + 1).toNat (jI y), rfr, rto, par, cel, opn, rst) := by
  simp (disch := omega) only [wpX_addCorner, jl_0, jl_1, jl_2, jl_3, jl_4, jl_5, jl_6, jl_7, jl_8, jl_9, jl_12, jl_13, jl_16, jl_24, jl_25, jl_50, jl_168, jl_169, jl_624, jl_625, jl_1000, jI_add, jI_sub, jI_mul, jI_neg, jI_div, ie_mod, jI_leT, jI_leF, jI_ltT, jI_ltF, jI_eqT, jI_eqF, jI_cl, jI_inT, forall_eq, true_implies, false_implies, implies_true, not_true_eq_false, not_false_eq_true, true_and, and_true, b2_0, b2_z, jI_b8, jI_nb]
theorem xx_pass {post : SX → Prop} {x t e : Int} (h : 0 ≤ x ∧ x ≤ 12 ∧ 0 ≤ t ∧ t ≤ e ∧ e ≤ 12) (hp : post (c, bd, rows, drawn, we passed (2 * t + 1) (e - t) (fun z => passed z.toNat ^^^ wd (fun i => decide (i = 2 * x))), work, inner, crn, rfr, rto, par, cel, opn, rst)) : wpX_pass post (c, bd, rows, drawn, passed, work, inner, crn, rfr, rto, par, cel, opn, rst) (jI x) (jI t) (jI e) := by
  simp (disch := omega) only [wpX_pass, jl_0, jl_1, jl_2, jl_3, jl_4, jl_5, jl_6, jl_7, jl_8, jl_9, jl_12, jl_13, jl_16, jl_24, jl_25, jl_50, jl_168, jl_169, jl_624, jl_625, jl_1000, jI_add, jI_sub, jI_mul, jI_neg, jI_div, ie_mod, jI_leT, jI_leF, jI_ltT, jI_ltF, jI_eqT, jI_eqF, jI_cl, jI_inT, forall_eq, true_implies, false_implies, implies_true, not_true_eq_false, not_false_eq_true, true_and, and_true, b2_0, b2_z]
  have := lj_a (fun n k s => wX_pass_7 post (jI x) (jI e) c bd n (jI (2 * t + 1 + 2 * k)) rows drawn s work inner crn rfr rto par cel opn rst) (fun k => we passed (2 * t + 1) k (fun z => passed z.toNat ^^^ wd (fun i => decide (i = 2 * x)))) 0 (e - t) (we_0 _ _ _).symm (by omega) (fun n => ?_) (fun n k h0 h1 ih => ?_)
  · rw [show 2 * t + 1 + 2 * 0 = 2 * t + 1 by omega] at this
    exact this
  · simp (disch := omega) only [wX_pass_7, jl_0, jl_1, jl_2, jl_3, jl_4, jl_5, jl_6, jl_7, jl_8, jl_9, jl_12, jl_13, jl_16, jl_24, jl_25, jl_50, jl_168, jl_169, jl_624, jl_625, jl_1000, jI_add, jI_sub, jI_mul, jI_neg, jI_div, ie_mod, jI_leT, jI_leF, jI_ltT, jI_ltF, jI_eqT, jI_eqF, jI_cl, jI_inT, forall_eq, true_implies, false_implies, implies_true, not_true_eq_false, not_false_eq_true, true_and, and_true, b2_0, b2_z]
    exact hp
  · simp (disch := omega) only [wX_pass_7, jl_0, jl_1, jl_2, jl_3, jl_4, jl_5, jl_6, jl_7, jl_8, jl_9, jl_12, jl_13, jl_16, jl_24, jl_25, jl_50, jl_168, jl_169, jl_624, jl_625, jl_1000, jI_add, jI_sub, jI_mul, jI_neg, jI_div, ie_mod, jI_leT, jI_leF, jI_ltT, jI_ltF, jI_eqT, jI_eqF, jI_cl, jI_inT, forall_eq, true_implies, false_implies, implies_true, not_true_eq_false, not_false_eq_true, true_and, and_true, b2_0, b2_z, we_o, wd_one]
    rw [show 2 * t + 1 + 2 * k + 2 = 2 * t + 1 + 2 * (k + 1) by omega, we_S _ _ (by omega) rfl]
    exact ih
theorem xx_go125 {post : Int32 → SX → Prop} {x p w t e : Int} (h : 0 ≤ p ∧ p ≤ 12 ∧ 0 ≤ w ∧ w ≤ p + x - w ∧ p + x - w ≤ 12 ∧ 0 ≤ t ∧ t ≤ e ∧ e ≤ 12)
    (hp : post (jI 1) (c, bd, rows, wr drawn (2 * t) (2 * e - 2 * t + 1) (fun z => drawn (2 * t + z).toNat ||| wd (fun i => decide (2 * w ≤ i ∧ i ≤ 2 * (p + x - w)))), we passed (2 * t + 1) (e - t) (fun z => passed z.toNat ^^^ wd (fun i => decide (i = 2 * p))), work, inner, crn, rfr, rto, par, cel, opn, rst)) :
    wX_go_125 post (jI x) (jI p) (jI w) (jI t) (jI e) c bd rows drawn passed work inner crn rfr rto par cel opn rst := by
  simp (disch := omega) only [wX_go_125, jl_0, jl_1, jl_2, jl_3, jl_4, jl_5, jl_6, jl_7, jl_8, jl_9, jl_12, jl_13, jl_16, jl_24, jl_25, jl_50, jl_168, jl_169, jl_624, jl_625, jl_1000, jI_add, jI_sub, jI_mul, jI_neg, jI_div, ie_mod, jI_leT, jI_leF, jI_ltT, jI_ltF, jI_eqT, jI_eqF, jI_cl, jI_inT, forall_eq, true_implies, false_implies, implies_true, not_true_eq_false, not_false_eq_true, true_and, and_true, b2_0, b2_z, xx_bits]
  have := lj_a (fun n k s => wX_go_150 post (jI p) (jI t) (jI e) (wd (fun i => decide (2 * w ≤ i ∧ i ≤ 2 * (p + x - w)))) c bd n (jI (2 * t + k)) rows s passed work inner crn rfr rto par cel opn rst) (fun k => wr drawn (2 * t) k (fun z => drawn (2 * t + z).toNat ||| wd (fun i => decide (2 * w ≤ i ∧ i ≤ 2 * (p + x - w))))) 0 (2 * e - 2 * t + 1) (wr_0 _ _ _).symm (by omega) (fun n => ?_) (fun n k h0 h1 ih => ?_)
  · rw [show 2 * t + 0 = 2 * t by omega] at this
    exact this
  · simp (disch := omega) only [wX_go_150, jl_0, jl_1, jl_2, jl_3, jl_4, jl_5, jl_6, jl_7, jl_8, jl_9, jl_12, jl_13, jl_16, jl_24, jl_25, jl_50, jl_168, jl_169, jl_624, jl_625, jl_1000, jI_add, jI_sub, jI_mul, jI_neg, jI_div, ie_mod, jI_leT, jI_leF, jI_ltT, jI_ltF, jI_eqT, jI_eqF, jI_cl, jI_inT, forall_eq, true_implies, false_implies, implies_true, not_true_eq_false, not_false_eq_true, true_and, and_true, b2_0, b2_z]
    refine xx_pass (by omega) ?_
    exact hp
  · simp (disch := omega) only [wX_go_150, jl_0, jl_1, jl_2, jl_3, jl_4, jl_5, jl_6, jl_7, jl_8, jl_9, jl_12, jl_13, jl_16, jl_24, jl_25, jl_50, jl_168, jl_169, jl_624, jl_625, jl_1000, jI_add, jI_sub, jI_mul, jI_neg, jI_div, ie_mod, jI_leT, jI_leF, jI_ltT, jI_ltF, jI_eqT, jI_eqF, jI_cl, jI_inT, forall_eq, true_implies, false_implies, implies_true, not_true_eq_false, not_false_eq_true, true_and, and_true, b2_0, b2_z, wr_o]
    rw [show 2 * t + k + 1 = 2 * t + (k + 1) by omega, wr_S _ _ (by omega) rfl]
    exact ih
end
section
variable {cy : Int32} {lys fil mad st px py lab : Nat → Int32}
variable {post : Int32 → Prop}
theorem yy_os68 {j a b : Int} (h : -1000 ≤ j ∧ j < 1000 ∧ -1000 ≤ a ∧ a < 1000 ∧ -1000 ≤ b ∧ b < 1000) : wY_onStep_68 post (jI j) (jI a) (jI b) cy lys fil mad st px py lab = post (b2 (decide (a ≤ j ∧ j ≤ b ∨ b ≤ j ∧ j ≤ a))) := by
  by_cases h1 : j < a
  · by_cases h2 : j < b
    · simp (disch := omega) only [wY_onStep_68, wY_onStep_80, jl_0, jl_1, jl_2, jl_3, jl_4, jl_5, jl_6, jl_7, jl_8, jl_9, jl_12, jl_13, jl_16, jl_24, jl_25, jl_50, jl_168, jl_169, jl_624, jl_625, jl_1000, jI_add, jI_sub, jI_mul, jI_neg, jI_div, ie_mod, jI_leT, jI_leF, jI_ltT, jI_ltF, jI_eqT, jI_eqF, jI_cl, jI_inT, forall_eq, true_implies, false_implies, implies_true, not_true_eq_false, not_false_eq_true, true_and, and_true, b2_0, b2_z, dc_T, dc_F, b2_T, b2_F]
    · simp (disch := omega) only [wY_onStep_68, wY_onStep_80, jl_0, jl_1, jl_2, jl_3, jl_4, jl_5, jl_6, jl_7, jl_8, jl_9, jl_12, jl_13, jl_16, jl_24, jl_25, jl_50, jl_168, jl_169, jl_624, jl_625, jl_1000, jI_add, jI_sub, jI_mul, jI_neg, jI_div, ie_mod, jI_leT, jI_leF, jI_ltT, jI_ltF, jI_eqT, jI_eqF, jI_cl, jI_inT, forall_eq, true_implies, false_implies, implies_true, not_true_eq_false, not_false_eq_true, true_and, and_true, b2_0, b2_z, dc_T, dc_F, b2_T, b2_F]
  · by_cases h2 : j ≤ b
    · simp (disch := omega) only [wY_onStep_68, wY_onStep_80, jl_0, jl_1, jl_2, jl_3, jl_4, jl_5, jl_6, jl_7, jl_8, jl_9, jl_12, jl_13, jl_16, jl_24, jl_25, jl_50, jl_168, jl_169, jl_624, jl_625, jl_1000, jI_add, jI_sub, jI_mul, jI_neg, jI_div, ie_mod, jI_leT, jI_leF, jI_ltT, jI_ltF, jI_eqT, jI_eqF, jI_cl, jI_inT, forall_eq, true_implies, false_implies, implies_true, not_true_eq_false, not_false_eq_true, true_and, and_true, b2_0, b2_z, dc_T, dc_F, b2_T, b2_F]
    · by_cases h3 : a < j
      · simp (disch := omega) only [wY_onStep_68, wY_onStep_80, jl_0, jl_1, jl_2, jl_3, jl_4, jl_5, jl_6, jl_7, jl_8, jl_9, jl_12, jl_13, jl_16, jl_24, jl_25, jl_50, jl_168, jl_169, jl_624, jl_625, jl_1000, jI_add, jI_sub, jI_mul, jI_neg, jI_div, ie_mod, jI_leT, jI_leF, jI_ltT, jI_ltF, jI_eqT, jI_eqF, jI_cl, jI_inT, forall_eq, true_implies, false_implies, implies_true, not_true_eq_false, not_false_eq_true, true_and, and_true, b2_0, b2_z, dc_T, dc_F, b2_T, b2_F]
      · simp (disch := omega) only [wY_onStep_68, wY_onStep_80, jl_0, jl_1, jl_2, jl_3, jl_4, jl_5, jl_6, jl_7, jl_8, jl_9, jl_12, jl_13, jl_16, jl_24, jl_25, jl_50, jl_168, jl_169, jl_624, jl_625, jl_1000, jI_add, jI_sub, jI_mul, jI_neg, jI_div, ie_mod, jI_leT, jI_leF, jI_ltT, jI_ltF, jI_eqT, jI_eqF, jI_cl, jI_inT, forall_eq, true_implies, false_implies, implies_true, not_true_eq_false, not_false_eq_true, true_and, and_true, b2_0, b2_z, dc_T, dc_F, b2_T, b2_F]
theorem yy_os {xs ys : Int → Int} {i j k : Int} (h : -1000 ≤ i ∧ i < 1000 ∧ -1000 ≤ j ∧ j < 1000 ∧ 0 ≤ k ∧ k < 24)
    (hk : 0 ≤ xs k ∧ xs k ≤ 12 ∧ 0 ≤ ys k ∧ ys k ≤ 12 ∧ px k.toNat = jI (xs k) ∧ py k.toNat = jI (ys k))
    (hk1 : 0 ≤ xs (k + 1) ∧ xs (k + 1) ≤ 12 ∧ 0 ≤ ys (k + 1) ∧ ys (k + 1) ≤ 12 ∧ px (k + 1).toNat = jI (xs (k + 1)) ∧ py (k + 1).toNat = jI (ys (k + 1))) :
    wpY_onStep post (cy, lys, fil, mad, st, px, py, lab) (jI i) (jI j) (jI k) = post (b2 (stp xs ys k i j)) := by
  obtain ⟨a1, a2, a3, a4, e1, e2⟩ := hk
  obtain ⟨c1, c2, c3, c4, e3, e4⟩ := hk1
  unfold stp
  have hX : wpY_onStep post (cy, lys, fil, mad, st, px, py, lab) (jI i) (jI j) (jI k) = post (b2 (decide (2 * xs k ≤ i ∧ i ≤ 2 * xs (k + 1) ∨ 2 * xs (k + 1) ≤ i ∧ i ≤ 2 * xs k) && decide (2 * ys k ≤ j ∧ j ≤ 2 * ys (k + 1) ∨ 2 * ys (k + 1) ≤ j ∧ j ≤ 2 * ys k))) := by
    by_cases h1 : i < 2 * xs k
    · by_cases h2 : i < 2 * xs (k + 1)
      · simp (disch := omega) only [wpY_onStep, wY_onStep_56, jl_0, jl_1, jl_2, jl_3, jl_4, jl_5, jl_6, jl_7, jl_8, jl_9, jl_12, jl_13, jl_16, jl_24, jl_25, jl_50, jl_168, jl_169, jl_624, jl_625, jl_1000, jI_add, jI_sub, jI_mul, jI_neg, jI_div, ie_mod, jI_leT, jI_leF, jI_ltT, jI_ltF, jI_eqT, jI_eqF, jI_cl, jI_inT, forall_eq, true_implies, false_implies, implies_true, not_true_eq_false, not_false_eq_true, true_and, and_true, b2_0, b2_z, e1, e2, e3, e4, yy_os68, dc_T, dc_F, Bool.true_and, Bool.false_and, b2_F]
      · simp (disch := omega) only [wpY_onStep, wY_onStep_56, jl_0, jl_1, jl_2, jl_3, jl_4, jl_5, jl_6, jl_7, jl_8, jl_9, jl_12, jl_13, jl_16, jl_24, jl_25, jl_50, jl_168, jl_169, jl_624, jl_625, jl_1000, jI_add, jI_sub, jI_mul, jI_neg, jI_div, ie_mod, jI_leT, jI_leF, jI_ltT, jI_ltF, jI_eqT, jI_eqF, jI_cl, jI_inT, forall_eq, true_implies, false_implies, implies_true, not_true_eq_false, not_false_eq_true, true_and, and_true, b2_0, b2_z, e1, e2, e3, e4, yy_os68, dc_T (p := 2 * xs k ≤ i ∧ i ≤ 2 * xs (k + 1) ∨ 2 * xs (k + 1) ≤ i ∧ i ≤ 2 * xs k), Bool.true_and]
    · by_cases h2 : i ≤ 2 * xs (k + 1)
      · simp (disch := omega) only [wpY_onStep, wY_onStep_56, jl_0, jl_1, jl_2, jl_3, jl_4, jl_5, jl_6, jl_7, jl_8, jl_9, jl_12, jl_13, jl_16, jl_24, jl_25, jl_50, jl_168, jl_169, jl_624, jl_625, jl_1000, jI_add, jI_sub, jI_mul, jI_neg, jI_div, ie_mod, jI_leT, jI_leF, jI_ltT, jI_ltF, jI_eqT, jI_eqF, jI_cl, jI_inT, forall_eq, true_implies, false_implies, implies_true, not_true_eq_false, not_false_eq_true, true_and, and_true, b2_0, b2_z, e1, e2, e3, e4, yy_os68, dc_T (p := 2 * xs k ≤ i ∧ i ≤ 2 * xs (k + 1) ∨ 2 * xs (k + 1) ≤ i ∧ i ≤ 2 * xs k), Bool.true_and]
      · by_cases h3 : 2 * xs k < i
        · simp (disch := omega) only [wpY_onStep, wY_onStep_56, jl_0, jl_1, jl_2, jl_3, jl_4, jl_5, jl_6, jl_7, jl_8, jl_9, jl_12, jl_13, jl_16, jl_24, jl_25, jl_50, jl_168, jl_169, jl_624, jl_625, jl_1000, jI_add, jI_sub, jI_mul, jI_neg, jI_div, ie_mod, jI_leT, jI_leF, jI_ltT, jI_ltF, jI_eqT, jI_eqF, jI_cl, jI_inT, forall_eq, true_implies, false_implies, implies_true, not_true_eq_false, not_false_eq_true, true_and, and_true, b2_0, b2_z, e1, e2, e3, e4, yy_os68, dc_F (p := 2 * xs k ≤ i ∧ i ≤ 2 * xs (k + 1) ∨ 2 * xs (k + 1) ≤ i ∧ i ≤ 2 * xs k), Bool.false_and, b2_F]
        · simp (disch := omega) only [wpY_onStep, wY_onStep_56, jl_0, jl_1, jl_2, jl_3, jl_4, jl_5, jl_6, jl_7, jl_8, jl_9, jl_12, jl_13, jl_16, jl_24, jl_25, jl_50, jl_168, jl_169, jl_624, jl_625, jl_1000, jI_add, jI_sub, jI_mul, jI_neg, jI_div, ie_mod, jI_leT, jI_leF, jI_ltT, jI_ltF, jI_eqT, jI_eqF, jI_cl, jI_inT, forall_eq, true_implies, false_implies, implies_true, not_true_eq_false, not_false_eq_true, true_and, and_true, b2_0, b2_z, e1, e2, e3, e4, yy_os68, dc_T (p := 2 * xs k ≤ i ∧ i ≤ 2 * xs (k + 1) ∨ 2 * xs (k + 1) ≤ i ∧ i ≤ 2 * xs k), Bool.true_and]
  rw [hX]
  congr 2
  exact (Bool.decide_and _ _).symm
theorem yy_one2 {x y a b : Int} (h : -1000 ≤ x ∧ x < 1000 ∧ -1000 ≤ y ∧ y < 1000 ∧ -1000 ≤ a ∧ a < 1000 ∧ -1000 ≤ b ∧ b < 1000) : wpY_oneApart post (cy, lys, fil, mad, st, px, py, lab) (jI x) (jI y) (jI a) (jI b) = post (b2 (decide (x = a) != decide (y = b))) := by
  by_cases h1 : x = a
  · by_cases h2 : y = b
    · simp (disch := omega) only [wpY_oneApart, wY_oneApart_10, wY_oneApart_21, jl_0, jl_1, jl_2, jl_3, jl_4, jl_5, jl_6, jl_7, jl_8, jl_9, jl_12, jl_13, jl_16, jl_24, jl_25, jl_50, jl_168, jl_169, jl_624, jl_625, jl_1000, jI_add, jI_sub, jI_mul, jI_neg, jI_div, ie_mod, jI_leT, jI_leF, jI_ltT, jI_ltF, jI_eqT, jI_eqF, jI_cl, jI_inT, forall_eq, true_implies, false_implies, implies_true, not_true_eq_false, not_false_eq_true, true_and, and_true, b2_0, b2_z, dc_T, dc_F, bne_self_eq_false, b2_F]
    · simp (disch := omega) only [wpY_oneApart, wY_oneApart_10, wY_oneApart_21, jl_0, jl_1, jl_2, jl_3, jl_4, jl_5, jl_6, jl_7, jl_8, jl_9, jl_12, jl_13, jl_16, jl_24, jl_25, jl_50, jl_168, jl_169, jl_624, jl_625, jl_1000, jI_add, jI_sub, jI_mul, jI_neg, jI_div, ie_mod, jI_leT, jI_leF, jI_ltT, jI_ltF, jI_eqT, jI_eqF, jI_cl, jI_inT, forall_eq, true_implies, false_implies, implies_true, not_true_eq_false, not_false_eq_true, true_and, and_true, b2_0, b2_z, dc_T, dc_F]
      rfl
  · by_cases h2 : y = b
    · simp (disch := omega) only [wpY_oneApart, wY_oneApart_10, wY_oneApart_21, jl_0, jl_1, jl_2, jl_3, jl_4, jl_5, jl_6, jl_7, jl_8, jl_9, jl_12, jl_13, jl_16, jl_24, jl_25, jl_50, jl_168, jl_169, jl_624, jl_625, jl_1000, jI_add, jI_sub, jI_mul, jI_neg, jI_div, ie_mod, jI_leT, jI_leF, jI_ltT, jI_ltF, jI_eqT, jI_eqF, jI_cl, jI_inT, forall_eq, true_implies, false_implies, implies_true, not_true_eq_false, not_false_eq_true, true_and, and_true, b2_0, b2_z, dc_T, dc_F]
      rfl
    · simp (disch := omega) only [wpY_oneApart, wY_oneApart_10, wY_oneApart_21, jl_0, jl_1, jl_2, jl_3, jl_4, jl_5, jl_6, jl_7, jl_8, jl_9, jl_12, jl_13, jl_16, jl_24, jl_25, jl_50, jl_168, jl_169, jl_624, jl_625, jl_1000, jI_add, jI_sub, jI_mul, jI_neg, jI_div, ie_mod, jI_leT, jI_leF, jI_ltT, jI_ltF, jI_eqT, jI_eqF, jI_cl, jI_inT, forall_eq, true_implies, false_implies, implies_true, not_true_eq_false, not_false_eq_true, true_and, and_true, b2_0, b2_z, dc_T, dc_F, bne_self_eq_false, b2_F]
end
theorem i_vc_begin {k : Nat} {u : SX} {v : SY} (I : i_Rel k u v) (hk : k + 5 ≤ 2560) (v1 : Int32) (v2 : Int32) : wpX_begin (fun r u' => wpY_begin (fun r' v' => r' = r ∧ i_Rel (k + 5) u' v') v v1 v2) u v1 v2 := by
  refine rl_el (P := fun u v => wpX_begin (fun r u' => wpY_begin (fun r' v' => r' = r ∧ i_Rel (k + 5) u' v') v v1 v2) u v1 v2) ?_ I
  intro L c xs ys bd rows drawn passed work inner crn rfr rto par cel opn rst lys fil mad st px py lab hR
  obtain ⟨x, a1, a2, rfl⟩ := jI_ex v1
  obtain ⟨y, b1, b2', rfl⟩ := jI_ex v2
  by_cases hr : 0 ≤ x ∧ x < 13 ∧ 0 ≤ y ∧ y < 13
  · simp (disch := omega) only [wpX_begin, xx_rng, jl_0, jl_1, jl_2, jl_3, jl_4, jl_5, jl_6, jl_7, jl_8, jl_9, jl_12, jl_13, jl_16, jl_24, jl_25, jl_50, jl_168, jl_169, jl_624, jl_625, jl_1000, jI_add, jI_sub, jI_mul, jI_neg, jI_div, ie_mod, jI_leT, jI_leF, jI_ltT, jI_ltF, jI_eqT, jI_eqF, jI_cl, jI_inT, forall_eq, true_implies, false_implies, implies_true, not_true_eq_false, not_false_eq_true, true_and, and_true, b2_0, b2_z]
    refine lj_a (fun n i s => wX_begin_12 _ (jI x) (jI y) (jI c) bd n (jI i) rows s.1 s.2 work inner crn rfr rto par cel opn rst) (fun i => (fl drawn i (fun _ => jI 0), fl passed i (fun _ => jI 0))) 0 25 (s0 := (drawn, passed)) (by rw [fl_0, fl_0]) (by omega) (fun n => ?_) (fun n i h0 h1 ih => ?_)
    · simp (disch := omega) only [wX_begin_12, jl_0, jl_1, jl_2, jl_3, jl_4, jl_5, jl_6, jl_7, jl_8, jl_9, jl_12, jl_13, jl_16, jl_24, jl_25, jl_50, jl_168, jl_169, jl_624, jl_625, jl_1000, jI_add, jI_sub, jI_mul, jI_neg, jI_div, ie_mod, jI_leT, jI_leF, jI_ltT, jI_ltF, jI_eqT, jI_eqF, jI_cl, jI_inT, forall_eq, true_implies, false_implies, implies_true, not_true_eq_false, not_false_eq_true, true_and, and_true, b2_0, b2_z, xx_add, wd_one]
      simp (disch := omega) only [wpY_begin, yy_rng, jl_0, jl_1, jl_2, jl_3, jl_4, jl_5, jl_6, jl_7, jl_8, jl_9, jl_12, jl_13, jl_16, jl_24, jl_25, jl_50, jl_168, jl_169, jl_624, jl_625, jl_1000, jI_add, jI_sub, jI_mul, jI_neg, jI_div, ie_mod, jI_leT, jI_leF, jI_ltT, jI_ltF, jI_eqT, jI_eqF, jI_cl, jI_inT, forall_eq, true_implies, false_implies, implies_true, not_true_eq_false, not_false_eq_true, true_and, and_true, b2_0, b2_z]
      refine rl_mk (c := 1) (xs := fun _ => x) (ys := fun _ => y) ⟨hR.1, hR.2.1, hR.2.2.1, hR.2.2.2.1, by omega, by omega, ?_, ?_⟩
      · intro q q0 q1
        have : q = 0 := by omega
        subst this
        refine ⟨hr.1, (by omega : x ≤ 12), hr.2.2.1, (by omega : y ≤ 12), ?_, ?_, ?_, ?_⟩
        · rw [up_n (by omega), up_s]
        · rw [up_s]
        · exact if_pos rfl
        · exact if_pos rfl
      · intro _
        refine ⟨fun j j0 j1 => ?_, fun j j0 j1 j2 => ?_⟩
        · by_cases e : j = 2 * y
          · subst e
            rw [up_s]
            refine wd_c (fun i _ _ => ?_)
            show decide (i = 2 * x) = decide (i = 2 * x ∧ 2 * y = 2 * y)
            exact decide_eq_decide.mpr (by omega)
          · rw [up_n (by omega), fl_r (by omega)]
            refine wd_J0.trans (wd_c (fun i _ _ => ?_))
            show false = decide (i = 2 * x ∧ j = 2 * y)
            exact (decide_eq_false (by omega)).symm
        · rw [fl_r (by omega)]
          exact wd_J0
    · simp (disch := omega) only [wX_begin_12, jl_0, jl_1, jl_2, jl_3, jl_4, jl_5, jl_6, jl_7, jl_8, jl_9, jl_12, jl_13, jl_16, jl_24, jl_25, jl_50, jl_168, jl_169, jl_624, jl_625, jl_1000, jI_add, jI_sub, jI_mul, jI_neg, jI_div, ie_mod, jI_leT, jI_leF, jI_ltT, jI_ltF, jI_eqT, jI_eqF, jI_cl, jI_inT, forall_eq, true_implies, false_implies, implies_true, not_true_eq_false, not_false_eq_true, true_and, and_true, b2_0, b2_z]
      rw [fl_s drawn (fun _ => jI 0) h0, fl_s passed (fun _ => jI 0) h0]
      exact ih
  · simp (disch := omega) only [wpX_begin, wpY_begin, xx_rngF, yy_rngF, jl_0, jl_1, jl_2, jl_3, jl_4, jl_5, jl_6, jl_7, jl_8, jl_9, jl_12, jl_13, jl_16, jl_24, jl_25, jl_50, jl_168, jl_169, jl_624, jl_625, jl_1000, jI_add, jI_sub, jI_mul, jI_neg, jI_div, ie_mod, jI_leT, jI_leF, jI_ltT, jI_ltF, jI_eqT, jI_eqF, jI_cl, jI_inT, forall_eq, true_implies, false_implies, implies_true, not_true_eq_false, not_false_eq_true, true_and, and_true, b2_0, b2_z]
    exact rl_mk hR
end
section
/-- one more corner -/
def xs1 (xs : Int → Int) (c x : Int) : Int → Int := fun k => if k = c then x else xs k
theorem xs1_c (xs : Int → Int) (c x : Int) : xs1 xs c x c = x := if_pos rfl
theorem xs1_n (xs : Int → Int) {c x k : Int} (h : k < c) : xs1 xs c x k = xs k := if_neg (by omega)
theorem stp_1 (xs ys : Int → Int) {c x y k : Int} (h : k + 1 < c) (i j : Int) : stp (xs1 xs c x) (xs1 ys c y) k i j = stp xs ys k i j := by
  unfold stp
  rw [xs1_n xs (by omega), xs1_n xs h, xs1_n ys (by omega), xs1_n ys h]
theorem pst_1 (xs ys : Int → Int) {c x y k : Int} (h : k + 1 < c) (i j : Int) : pst (xs1 xs c x) (xs1 ys c y) k i j = pst xs ys k i j := by
  unfold pst
  rw [stp_1 xs ys h, xs1_n xs (by omega), xs1_n xs h]
theorem onP_1 (xs ys : Int → Int) {c x y : Int} (h : 1 ≤ c) (i j : Int) : onP (xs1 xs c x) (xs1 ys c y) c i j = (onP xs ys (c - 1) i j || stp (xs1 xs c x) (xs1 ys c y) (c - 1) i j) := by
  unfold onP
  have e := ac_s (fun k => stp (xs1 xs c x) (xs1 ys c y) k i j) (decide (i = 2 * xs1 xs c x 0 ∧ j = 2 * xs1 ys c y 0)) (i := c - 1) (by omega)
  rw [show c - 1 + 1 = c by omega] at e
  rw [e, xs1_n xs (by omega), xs1_n ys (by omega)]
  congr 1
  exact ac_c _ _ (fun k k0 k1 => stp_1 xs ys (by omega) i j)
theorem psd_1 (xs ys : Int → Int) {c x y : Int} (h : 1 ≤ c) (i j : Int) : psd (xs1 xs c x) (xs1 ys c y) c i j = (psd xs ys (c - 1) i j ^^ pst (xs1 xs c x) (xs1 ys c y) (c - 1) i j) := by
  unfold psd
  have e := xc_s (fun k => pst (xs1 xs c x) (xs1 ys c y) k i j) (i := c - 1) (by omega)
  rw [show c - 1 + 1 = c by omega] at e
  rw [e]
  congr 1
  exact xc_c _ (fun k k0 k1 => pst_1 xs ys (by omega) i j)
theorem stp_v (xs ys : Int → Int) (c x y i j : Int) (h : 1 ≤ c) : stp (xs1 xs c x) (xs1 ys c y) (c - 1) i j =
    decide ((2 * xs (c - 1) ≤ i ∧ i ≤ 2 * x ∨ 2 * x ≤ i ∧ i ≤ 2 * xs (c - 1)) ∧ (2 * ys (c - 1) ≤ j ∧ j ≤ 2 * y ∨ 2 * y ≤ j ∧ j ≤ 2 * ys (c - 1))) := by
  unfold stp
  rw [show c - 1 + 1 = c by omega, xs1_c, xs1_c, xs1_n xs (by omega), xs1_n ys (by omega)]
/-- what a step passes, by rows -/
theorem pas_r {xs ys : Int → Int} {c x y t e : Int} {passed : Nat → Int32} (hc : 1 ≤ c) (hq : 0 ≤ ys (c - 1) ∧ ys (c - 1) ≤ 12 ∧ 0 ≤ y ∧ y ≤ 12) (hp : 0 ≤ xs (c - 1) ∧ xs (c - 1) ≤ 12)
    (ht : t = min (ys (c - 1)) y) (he : e = max (ys (c - 1)) y) (h1 : xs (c - 1) = x ∨ ys (c - 1) = y)
    (hP : ∀ j : Int, 0 ≤ j → j < 25 → j % 2 = 1 → passed j.toNat = wd (fun i => psd xs ys (c - 1) i j)) :
    ∀ j : Int, 0 ≤ j → j < 25 → j % 2 = 1 → we passed (2 * t + 1) (e - t) (fun z => passed z.toNat ^^^ wd (fun i => decide (i = 2 * xs (c - 1)))) j.toNat = wd (fun i => psd (xs1 xs c x) (xs1 ys c y) c i j) := by
  intro j j0 j1 j2
  by_cases z : 2 * t + 1 ≤ j ∧ j < 2 * t + 1 + 2 * (e - t)
  · rw [we_r (by omega), hP j j0 j1 j2, wd_xor]
    refine wd_c (fun i _ _ => ?_)
    rw [psd_1 xs ys hc]
    congr 1
    unfold pst
    rw [stp_v xs ys c x y i j hc, show c - 1 + 1 = c by omega, xs1_c, xs1_n xs (by omega)]
    by_cases ei : i = 2 * xs (c - 1)
    · rw [decide_eq_true ei, decide_eq_true (by omega), decide_eq_true (by omega)]; rfl
    · rw [decide_eq_false ei, decide_eq_false (by omega)]; rfl
  · rw [we_o (by omega), hP j j0 j1 j2]
    refine wd_c (fun i _ _ => ?_)
    rw [psd_1 xs ys hc]
    have : pst (xs1 xs c x) (xs1 ys c y) (c - 1) i j = false := by
      unfold pst
      rw [stp_v xs ys c x y i j hc, Bool.and_eq_false_iff]
      by_cases ex : xs (c - 1) = x
      · exact Or.inr (decide_eq_false (by omega))
      · refine Or.inl (decide_eq_false ?_)
        rw [show c - 1 + 1 = c by omega, xs1_c, xs1_n xs (by omega)]
        exact fun q => ex q.1
    rw [this, Bool.xor_false]
theorem rp_go {xs ys : Int → Int} {c x y w t e : Int} {drawn passed crn px py : Nat → Int32} (h : RP c xs ys drawn passed crn px py) (hc : 1 ≤ c) (hc2 : c ≤ 23) (hx : 0 ≤ x ∧ x ≤ 12) (hy : 0 ≤ y ∧ y ≤ 12)
    (hw : w = min (xs (c - 1)) x) (ht : t = min (ys (c - 1)) y) (he : e = max (ys (c - 1)) y) (h1 : xs (c - 1) = x ∨ ys (c - 1) = y) :
    RP (c + 1) (xs1 xs c x) (xs1 ys c y) (wr drawn (2 * t) (2 * e - 2 * t + 1) (fun z => drawn (2 * t + z).toNat ||| wd (fun i => decide (2 * w ≤ i ∧ i ≤ 2 * (xs (c - 1) + x - w)))))
      (we passed (2 * t + 1) (e - t) (fun z => passed z.toNat ^^^ wd (fun i => decide (i = 2 * xs (c - 1))))) (upd (upd crn (2 * c).toNat (jI x)) (2 * c + 1).toNat (jI y)) (upd px c.toNat (jI x)) (upd py c.toNat (jI y)) := by
  obtain ⟨k1, k2, k3, k4⟩ := h
  obtain ⟨d1, d2⟩ := k4 hc
  have hp := k3 (c - 1) (by omega) (by omega)
  refine ⟨by omega, by omega, ?_, ?_⟩
  · intro q q0 q1
    by_cases z : q = c
    · subst z
      rw [xs1_c, xs1_c]
      refine ⟨hx.1, hx.2, hy.1, hy.2, ?_, ?_, ?_, ?_⟩
      · rw [up_n (by omega), up_s]
      · rw [up_s]
      · rw [up_s]
      · rw [up_s]
    · rw [xs1_n xs (by omega), xs1_n ys (by omega)]
      obtain ⟨e1, e2, e3, e4, e5, e6, e7, e8⟩ := k3 q q0 (by omega)
      refine ⟨e1, e2, e3, e4, ?_, ?_, ?_, ?_⟩
      · rw [up_n (by omega), up_n (by omega), e5]
      · rw [up_n (by omega), up_n (by omega), e6]
      · rw [up_n (by omega), e7]
      · rw [up_n (by omega), e8]
  · intro _
    rw [show c + 1 - 1 = c by omega]
    refine ⟨?_, pas_r hc (by omega) (by omega) ht he h1 d2⟩
    intro j j0 j1
    by_cases z : 2 * t ≤ j ∧ j ≤ 2 * e
    · have ez : j = 2 * t + (j - 2 * t) := by omega
      rw [ez, wr_r (by omega), ← ez, d1 j j0 j1, wd_or]
      refine wd_c (fun i _ _ => ?_)
      rw [onP_1 xs ys hc, stp_v xs ys c x y i j hc]
      congr 1
      exact decide_eq_decide.mpr (by omega)
    · rw [wr_o (by omega), d1 j j0 j1]
      refine wd_c (fun i _ _ => ?_)
      rw [onP_1 xs ys hc, stp_v xs ys c x y i j hc, decide_eq_false (by omega), Bool.or_false]
theorem i_vc_go {k : Nat} {u : SX} {v : SY} (I : i_Rel k u v) (hk : k + 5 ≤ 2560) (v1 : Int32) (v2 : Int32) : wpX_go (fun r u' => wpY_go (fun r' v' => r' = r ∧ i_Rel (k + 5) u' v') v v1 v2) u v1 v2 := by
  refine rl_el (P := fun u v => wpX_go (fun r u' => wpY_go (fun r' v' => r' = r ∧ i_Rel (k + 5) u' v') v v1 v2) u v1 v2) ?_ I
  intro L c xs ys bd rows drawn passed work inner crn rfr rto par cel opn rst lys fil mad st px py lab hR
  obtain ⟨x, a1, a2, rfl⟩ := jI_ex v1
  obtain ⟨y, b1, b2', rfl⟩ := jI_ex v2
  have hP := hR.2.2.2.2
  have hc0 := hP.1
  have hc24 := hP.2.1
  by_cases hr : 0 ≤ x ∧ x < 13 ∧ 0 ≤ y ∧ y < 13
  · by_cases hc : c = 0
    · subst hc
      simp (disch := omega) only [wpX_go, wpY_go, xx_rng, yy_rng, jl_0, jl_1, jl_2, jl_3, jl_4, jl_5, jl_6, jl_7, jl_8, jl_9, jl_12, jl_13, jl_16, jl_24, jl_25, jl_50, jl_168, jl_169, jl_624, jl_625, jl_1000, jI_add, jI_sub, jI_mul, jI_neg, jI_div, ie_mod, jI_leT, jI_leF, jI_ltT, jI_ltF, jI_eqT, jI_eqF, jI_cl, jI_inT, forall_eq, true_implies, false_implies, implies_true, not_true_eq_false, not_false_eq_true, true_and, and_true, b2_0, b2_z]
      exact rl_mk hR
    · by_cases hc4 : c = 24
      · subst hc4
        simp (disch := omega) only [wpX_go, wpY_go, xx_rng, yy_rng, jl_0, jl_1, jl_2, jl_3, jl_4, jl_5, jl_6, jl_7, jl_8, jl_9, jl_12, jl_13, jl_16, jl_24, jl_25, jl_50, jl_168, jl_169, jl_624, jl_625, jl_1000, jI_add, jI_sub, jI_mul, jI_neg, jI_div, ie_mod, jI_leT, jI_leF, jI_ltT, jI_ltF, jI_eqT, jI_eqF, jI_cl, jI_inT, forall_eq, true_implies, false_implies, implies_true, not_true_eq_false, not_false_eq_true, true_and, and_true, b2_0, b2_z]
        exact rl_mk hR
      · obtain ⟨e1, e2, e3, e4, e5, e6, e7, e8⟩ := hP.2.2.1 (c - 1) (by omega) (by omega)
        rw [show 2 * (c - 1) = 2 * c - 2 by omega] at e5
        rw [show 2 * (c - 1) + 1 = 2 * c - 1 by omega] at e6
        have fin : ∀ w t e : Int, w = min (xs (c - 1)) x → t = min (ys (c - 1)) y → e = max (ys (c - 1)) y → (xs (c - 1) = x ∨ ys (c - 1) = y) → (decide (x = xs (c - 1)) != decide (y = ys (c - 1))) = true →
            wX_go_125 (fun r u' => wpY_go (fun r' v' => r' = r ∧ i_Rel (k + 5) u' v') (jI c, lys, fil, mad, st, px, py, lab) (jI x) (jI y)) (jI x) (jI (xs (c - 1))) (jI w) (jI t) (jI e) (jI (c + 1)) bd rows drawn passed work inner (upd (upd crn (2 * c).toNat (jI x)) (2 * c + 1).toNat (jI y)) rfr rto par cel opn rst := by
          intro w t e hw ht he h1 h2
          refine xx_go125 (by omega) ?_
          simp (disch := omega) only [wpY_go, yy_rng, jl_0, jl_1, jl_2, jl_3, jl_4, jl_5, jl_6, jl_7, jl_8, jl_9, jl_12, jl_13, jl_16, jl_24, jl_25, jl_50, jl_168, jl_169, jl_624, jl_625, jl_1000, jI_add, jI_sub, jI_mul, jI_neg, jI_div, ie_mod, jI_leT, jI_leF, jI_ltT, jI_ltF, jI_eqT, jI_eqF, jI_cl, jI_inT, forall_eq, true_implies, false_implies, implies_true, not_true_eq_false, not_false_eq_true, true_and, and_true, b2_0, b2_z, e7, e8, yy_one2, h2, reduceCtorEq]
          exact rl_mk ⟨hR.1, hR.2.1, hR.2.2.1, hR.2.2.2.1, rp_go hP (by omega) (by omega) (by omega) (by omega) hw ht he h1⟩
        by_cases ex : xs (c - 1) = x
        · by_cases ey : ys (c - 1) = y
          · simp (disch := omega) only [wpX_go, wX_go_65, wX_go_76, xx_rng, jl_0, jl_1, jl_2, jl_3, jl_4, jl_5, jl_6, jl_7, jl_8, jl_9, jl_12, jl_13, jl_16, jl_24, jl_25, jl_50, jl_168, jl_169, jl_624, jl_625, jl_1000, jI_add, jI_sub, jI_mul, jI_neg, jI_div, ie_mod, jI_leT, jI_leF, jI_ltT, jI_ltF, jI_eqT, jI_eqF, jI_cl, jI_inT, forall_eq, true_implies, false_implies, implies_true, not_true_eq_false, not_false_eq_true, true_and, and_true, b2_0, b2_z, e5, e6]
            have h2 : (decide (x = xs (c - 1)) != decide (y = ys (c - 1))) = false := by
              rw [decide_eq_true ex.symm, decide_eq_true ey.symm]; rfl
            simp (disch := omega) only [wpY_go, yy_rng, jl_0, jl_1, jl_2, jl_3, jl_4, jl_5, jl_6, jl_7, jl_8, jl_9, jl_12, jl_13, jl_16, jl_24, jl_25, jl_50, jl_168, jl_169, jl_624, jl_625, jl_1000, jI_add, jI_sub, jI_mul, jI_neg, jI_div, ie_mod, jI_leT, jI_leF, jI_ltT, jI_ltF, jI_eqT, jI_eqF, jI_cl, jI_inT, forall_eq, true_implies, false_implies, implies_true, not_true_eq_false, not_false_eq_true, true_and, and_true, b2_0, b2_z, e7, e8, yy_one2, h2]
            exact rl_mk hR
          · have h2 : (decide (x = xs (c - 1)) != decide (y = ys (c - 1))) = true := by
              rw [decide_eq_true ex.symm, decide_eq_false (fun q => ey q.symm)]; rfl
            by_cases q : y ≤ ys (c - 1)
            · simp (disch := omega) only [wpX_go, wX_go_65, wX_go_76, wX_go_97, wX_go_111, xx_rng, xx_add, jl_0, jl_1, jl_2, jl_3, jl_4, jl_5, jl_6, jl_7, jl_8, jl_9, jl_12, jl_13, jl_16, jl_24, jl_25, jl_50, jl_168, jl_169, jl_624, jl_625, jl_1000, jI_add, jI_sub, jI_mul, jI_neg, jI_div, ie_mod, jI_leT, jI_leF, jI_ltT, jI_ltF, jI_eqT, jI_eqF, jI_cl, jI_inT, forall_eq, true_implies, false_implies, implies_true, not_true_eq_false, not_false_eq_true, true_and, and_true, b2_0, b2_z, e5, e6]
              exact fin _ _ _ (by omega) (by omega) (by omega) (Or.inl ex) h2
            · simp (disch := omega) only [wpX_go, wX_go_65, wX_go_76, wX_go_97, wX_go_111, xx_rng, xx_add, jl_0, jl_1, jl_2, jl_3, jl_4, jl_5, jl_6, jl_7, jl_8, jl_9, jl_12, jl_13, jl_16, jl_24, jl_25, jl_50, jl_168, jl_169, jl_624, jl_625, jl_1000, jI_add, jI_sub, jI_mul, jI_neg, jI_div, ie_mod, jI_leT, jI_leF, jI_ltT, jI_ltF, jI_eqT, jI_eqF, jI_cl, jI_inT, forall_eq, true_implies, false_implies, implies_true, not_true_eq_false, not_false_eq_true, true_and, and_true, b2_0, b2_z, e5, e6]
              exact fin _ _ _ (by omega) (by omega) (by omega) (Or.inl ex) h2
        · by_cases ey : ys (c - 1) = y
          · have h2 : (decide (x = xs (c - 1)) != decide (y = ys (c - 1))) = true := by
              rw [decide_eq_true ey.symm, decide_eq_false (fun q => ex q.symm)]; rfl
            by_cases q : x ≤ xs (c - 1)
            · simp (disch := omega) only [wpX_go, wX_go_65, wX_go_76, wX_go_97, wX_go_111, xx_rng, xx_add, jl_0, jl_1, jl_2, jl_3, jl_4, jl_5, jl_6, jl_7, jl_8, jl_9, jl_12, jl_13, jl_16, jl_24, jl_25, jl_50, jl_168, jl_169, jl_624, jl_625, jl_1000, jI_add, jI_sub, jI_mul, jI_neg, jI_div, ie_mod, jI_leT, jI_leF, jI_ltT, jI_ltF, jI_eqT, jI_eqF, jI_cl, jI_inT, forall_eq, true_implies, false_implies, implies_true, not_true_eq_false, not_false_eq_true, true_and, and_true, b2_0, b2_z, e5, e6]
              exact fin _ _ _ (by omega) (by omega) (by omega) (Or.inr ey) h2
            · simp (disch := omega) only [wpX_go, wX_go_65, wX_go_76, wX_go_97, wX_go_111, xx_rng, xx_add, jl_0, jl_1, jl_2, jl_3, jl_4, jl_5, jl_6, jl_7, jl_8, jl_9, jl_12, jl_13, jl_16, jl_24, jl_25, jl_50, jl_168, jl_169, jl_624, jl_625, jl_1000, jI_add, jI_sub, jI_mul, jI_neg, jI_div, ie_mod, jI_leT, jI_leF, jI_ltT, jI_ltF, jI_eqT, jI_eqF, jI_cl, jI_inT, forall_eq, true_implies, false_implies, implies_true, not_true_eq_false, not_false_eq_true, true_and, and_true, b2_0, b2_z, e5, e6]
              exact fin _ _ _ (by omega) (by omega) (by omega) (Or.inr ey) h2
          · simp (disch := omega) only [wpX_go, wX_go_65, wX_go_76, xx_rng, jl_0, jl_1, jl_2, jl_3, jl_4, jl_5, jl_6, jl_7, jl_8, jl_9, jl_12, jl_13, jl_16, jl_24, jl_25, jl_50, jl_168, jl_169, jl_624, jl_625, jl_1000, jI_add, jI_sub, jI_mul, jI_neg, jI_div, ie_mod, jI_leT, jI_leF, jI_ltT, jI_ltF, jI_eqT, jI_eqF, jI_cl, jI_inT, forall_eq, true_implies, false_implies, implies_true, not_true_eq_false, not_false_eq_true, true_and, and_true, b2_0, b2_z, e5, e6]
            have h2 : (decide (x = xs (c - 1)) != decide (y = ys (c - 1))) = false := by
              rw [decide_eq_false (fun q => ex q.symm), decide_eq_false (fun q => ey q.symm)]; rfl
            simp (disch := omega) only [wpY_go, yy_rng, jl_0, jl_1, jl_2, jl_3, jl_4, jl_5, jl_6, jl_7, jl_8, jl_9, jl_12, jl_13, jl_16, jl_24, jl_25, jl_50, jl_168, jl_169, jl_624, jl_625, jl_1000, jI_add, jI_sub, jI_mul, jI_neg, jI_div, ie_mod, jI_leT, jI_leF, jI_ltT, jI_ltF, jI_eqT, jI_eqF, jI_cl, jI_inT, forall_eq, true_implies, false_implies, implies_true, not_true_eq_false, not_false_eq_true, true_and, and_true, b2_0, b2_z, e7, e8, yy_one2, h2]
            exact rl_mk hR
  · simp (disch := omega) only [wpX_go, wpY_go, xx_rngF, yy_rngF, jl_0, jl_1, jl_2, jl_3, jl_4, jl_5, jl_6, jl_7, jl_8, jl_9, jl_12, jl_13, jl_16, jl_24, jl_25, jl_50, jl_168, jl_169, jl_624, jl_625, jl_1000, jI_add, jI_sub, jI_mul, jI_neg, jI_div, ie_mod, jI_leT, jI_leF, jI_ltT, jI_ltF, jI_eqT, jI_eqF, jI_cl, jI_inT, forall_eq, true_implies, false_implies, implies_true, not_true_eq_false, not_false_eq_true, true_and, and_true, b2_0, b2_z]
    exact rl_mk hR
end
section
theorem wr_K {f : Nat → Int32} {o m : Int} {g : Int → Int32} (h : 0 ≤ o ∧ 0 ≤ m) (hx : f (o + m).toNat = g m) : wr f o m g = wr f o (m + 1) g := by
  have := wr_S f (o := o) (m := m) g (x := g m) h rfl
  rw [← this]
  refine (up_id ?_).symm
  rw [wr_o (by omega), hx]
theorem cl_sub {A B : Int → Int → Bool} (h : ∀ i j, A i j = B i j) (hA : Cl A) : Cl B := by
  have : A = B := by funext i j; exact h i j
  rw [← this]; exact hA
theorem i_vc_draw {k : Nat} {u : SX} {v : SY} (I : i_Rel k u v) (hk : k + 5 ≤ 2560) (v1 : Int32) : wpX_draw (fun r u' => wpY_draw (fun r' v' => r' = r ∧ i_Rel (k + 5) u' v') v v1) u v1 := by
  refine rl_el (P := fun u v => wpX_draw (fun r u' => wpY_draw (fun r' v' => r' = r ∧ i_Rel (k + 5) u' v') v v1) u v1) ?_ I
  intro L c xs ys bd rows drawn passed work inner crn rfr rto par cel opn rst lys fil mad st px py lab hR
  obtain ⟨l, a1, a2, rfl⟩ := jI_ex v1
  have hP := hR.2.2.2.2
  have hc0 := hP.1
  have hc24 := hP.2.1
  by_cases hl : 0 ≤ l ∧ l < 6
  · by_cases hc : c = 0
    · subst hc
      simp (disch := omega) only [wpX_draw, wpY_draw, xx_lay, yy_lay, jl_0, jl_1, jl_2, jl_3, jl_4, jl_5, jl_6, jl_7, jl_8, jl_9, jl_12, jl_13, jl_16, jl_24, jl_25, jl_50, jl_168, jl_169, jl_624, jl_625, jl_1000, jI_add, jI_sub, jI_mul, jI_neg, jI_div, ie_mod, jI_leT, jI_leF, jI_ltT, jI_ltF, jI_eqT, jI_eqF, jI_cl, jI_inT, forall_eq, true_implies, false_implies, implies_true, not_true_eq_false, not_false_eq_true, true_and, and_true, b2_0, b2_z]
      exact rl_mk hR
    · obtain ⟨d1, d2⟩ := hP.2.2.2 (by omega)
      simp (disch := omega) only [wpX_draw, xx_lay, jl_0, jl_1, jl_2, jl_3, jl_4, jl_5, jl_6, jl_7, jl_8, jl_9, jl_12, jl_13, jl_16, jl_24, jl_25, jl_50, jl_168, jl_169, jl_624, jl_625, jl_1000, jI_add, jI_sub, jI_mul, jI_neg, jI_div, ie_mod, jI_leT, jI_leF, jI_ltT, jI_ltF, jI_eqT, jI_eqF, jI_cl, jI_inT, forall_eq, true_implies, false_implies, implies_true, not_true_eq_false, not_false_eq_true, true_and, and_true, b2_0, b2_z]
      refine lj_a (fun n i s => wX_draw_18 _ (jI l) (jI c) bd n (jI i) s drawn passed work inner crn rfr rto par cel opn rst) (fun i => wr rows (25 * l) i (fun j => wd (fun i => L l i j || onP xs ys (c - 1) i j))) 0 25 (wr_0 _ _ _).symm (by omega) (fun n => ?_) (fun n i h0 h1 ih => ?_)
      · simp (disch := omega) only [wX_draw_18, jl_0, jl_1, jl_2, jl_3, jl_4, jl_5, jl_6, jl_7, jl_8, jl_9, jl_12, jl_13, jl_16, jl_24, jl_25, jl_50, jl_168, jl_169, jl_624, jl_625, jl_1000, jI_add, jI_sub, jI_mul, jI_neg, jI_div, ie_mod, jI_leT, jI_leF, jI_ltT, jI_ltF, jI_eqT, jI_eqF, jI_cl, jI_inT, forall_eq, true_implies, false_implies, implies_true, not_true_eq_false, not_false_eq_true, true_and, and_true, b2_0, b2_z]
        simp (disch := omega) only [wpY_draw, yy_lay, jl_0, jl_1, jl_2, jl_3, jl_4, jl_5, jl_6, jl_7, jl_8, jl_9, jl_12, jl_13, jl_16, jl_24, jl_25, jl_50, jl_168, jl_169, jl_624, jl_625, jl_1000, jI_add, jI_sub, jI_mul, jI_neg, jI_div, ie_mod, jI_leT, jI_leF, jI_ltT, jI_ltF, jI_eqT, jI_eqF, jI_cl, jI_inT, forall_eq, true_implies, false_implies, implies_true, not_true_eq_false, not_false_eq_true, true_and, and_true, b2_0, b2_z]
        have f0 := hP.2.2.1 0 (by omega) (by omega)
        have e7 : px 0 = jI (xs 0) := f0.2.2.2.2.2.2.1
        have e8 : py 0 = jI (ys 0) := f0.2.2.2.2.2.2.2
        refine lj_a (fun n i s => wY_draw_19 _ (jI l) (jI c) n (jI i) s fil mad st px py lab) (fun i => wr lys (625 * l) i (fun n => b2 (L l (n / 25) (n % 25) || onP xs ys (c - 1) (n / 25) (n % 25)))) 0 625 (wr_0 _ _ _).symm (by omega) (fun n => ?_) (fun n i h0 h1 ih => ?_)
        · simp (disch := omega) only [wY_draw_19, jl_0, jl_1, jl_2, jl_3, jl_4, jl_5, jl_6, jl_7, jl_8, jl_9, jl_12, jl_13, jl_16, jl_24, jl_25, jl_50, jl_168, jl_169, jl_624, jl_625, jl_1000, jI_add, jI_sub, jI_mul, jI_neg, jI_div, ie_mod, jI_leT, jI_leF, jI_ltT, jI_ltF, jI_eqT, jI_eqF, jI_cl, jI_inT, forall_eq, true_implies, false_implies, implies_true, not_true_eq_false, not_false_eq_true, true_and, and_true, b2_0, b2_z]
          refine rl_mk (ls_rc (M := fun i j => L l i j || onP xs ys (c - 1) i j) hR hl ?_ (cl_or (hR.2.2.2.1 l) (onP_cl xs ys (c - 1))) (fun j j0 j1 => rfl) (fun n _ _ => rfl))
          intro i j hij
          show (L l i j || onP xs ys (c - 1) i j) = false
          have ho : onP xs ys (c - 1) i j = false := onP_o (xs := xs) (ys := ys) (m := c - 1) (fun q q0 q1 => by
            obtain ⟨g1, g2, g3, g4, _⟩ := hP.2.2.1 q q0 (by omega)
            exact ⟨g1, g2, g3, g4⟩) (by omega) i j hij
          rw [hR.2.2.1 l i j hij, ho]
          rfl
        · have hL : lys (625 * l + i).toNat = b2 (L l (i / 25) (i % 25)) := ry_n hR.2.1 hl ⟨h0, h1⟩
          have inn : ∀ a : Bool, a = decide (i / 25 = 2 * xs 0 ∧ i % 25 = 2 * ys 0) → ∃ n72, wY_draw_72 (fun r' v' => r' = jI 1 ∧ i_Rel (k + 5) (jI c, bd, wr rows (25 * l) 25 (fun j => wd (fun i => L l i j || onP xs ys (c - 1) i j)), drawn, passed, work, inner, crn, rfr, rto, par, cel, opn, rst) v')
              (wY_draw_19 (fun r' v' => r' = jI 1 ∧ i_Rel (k + 5) (jI c, bd, wr rows (25 * l) 25 (fun j => wd (fun i => L l i j || onP xs ys (c - 1) i j)), drawn, passed, work, inner, crn, rfr, rto, par, cel, opn, rst) v') (jI l) (jI c) n) (jI l) (jI i) (jI (i / 25)) (jI (i % 25)) (jI c) (wr lys (625 * l) i (fun n => b2 (L l (n / 25) (n % 25) || onP xs ys (c - 1) (n / 25) (n % 25)))) fil mad st px py lab n72 (b2 a) (jI 0) := by
            intro a ha
            refine lj_a (fun n2 q s => wY_draw_72 _ (wY_draw_19 _ (jI l) (jI c) n) (jI l) (jI i) (jI (i / 25)) (jI (i % 25)) (jI c) (wr lys (625 * l) i (fun n => b2 (L l (n / 25) (n % 25) || onP xs ys (c - 1) (n / 25) (n % 25)))) fil mad st px py lab n2 s (jI q)) (fun q => b2 (ac (fun k => stp xs ys k (i / 25) (i % 25)) a q.toNat)) 0 (c - 1) rfl (by omega) (fun n2 => ?_) (fun n2 q q0 q1 ih2 => ?_)
            · simp (disch := omega) only [wY_draw_72, jl_0, jl_1, jl_2, jl_3, jl_4, jl_5, jl_6, jl_7, jl_8, jl_9, jl_12, jl_13, jl_16, jl_24, jl_25, jl_50, jl_168, jl_169, jl_624, jl_625, jl_1000, jI_add, jI_sub, jI_mul, jI_neg, jI_div, ie_mod, jI_leT, jI_leF, jI_ltT, jI_ltF, jI_eqT, jI_eqF, jI_cl, jI_inT, forall_eq, true_implies, false_implies, implies_true, not_true_eq_false, not_false_eq_true, true_and, and_true, b2_0, b2_z]
              have ho : onP xs ys (c - 1) (i / 25) (i % 25) = ac (fun k => stp xs ys k (i / 25) (i % 25)) a (c - 1).toNat := by unfold onP; rw [ha]
              refine tf_c (fun e => ?_) (fun e => ?_)
              · rw [e] at ho
                rw [wr_K (f := lys) (o := 625 * l) (m := i) (by omega) (by rw [hL, ho, Bool.or_false])]
                exact ih
              · rw [e] at ho
                rw [nb_1, wr_S _ _ (by omega) (by rw [ho, Bool.or_true])]
                exact ih
            · obtain ⟨g1, g2, g3, g4, _, _, g5, g6⟩ := hP.2.2.1 q q0 (by omega)
              obtain ⟨m1, m2, m3, m4, _, _, m5, m6⟩ := hP.2.2.1 (q + 1) (by omega) (by omega)
              simp (disch := omega) only [wY_draw_72, jl_0, jl_1, jl_2, jl_3, jl_4, jl_5, jl_6, jl_7, jl_8, jl_9, jl_12, jl_13, jl_16, jl_24, jl_25, jl_50, jl_168, jl_169, jl_624, jl_625, jl_1000, jI_add, jI_sub, jI_mul, jI_neg, jI_div, ie_mod, jI_leT, jI_leF, jI_ltT, jI_ltF, jI_eqT, jI_eqF, jI_cl, jI_inT, forall_eq, true_implies, false_implies, implies_true, not_true_eq_false, not_false_eq_true, true_and, and_true, b2_0, b2_z]
              rw [yy_os (xs := xs) (ys := ys) (by omega) ⟨g1, g2, g3, g4, g5, g6⟩ ⟨m1, m2, m3, m4, m5, m6⟩, b2_or]
              rw [ac_s _ _ q0] at ih2
              exact ih2
          have r0 := f0.1
          have r1 := f0.2.1
          have r2 := f0.2.2.1
          have r3 := f0.2.2.2.1
          by_cases q1 : i / 25 = 2 * xs 0
          · by_cases q2 : i % 25 = 2 * ys 0
            · simp (disch := omega) only [wY_draw_19, jl_0, jl_1, jl_2, jl_3, jl_4, jl_5, jl_6, jl_7, jl_8, jl_9, jl_12, jl_13, jl_16, jl_24, jl_25, jl_50, jl_168, jl_169, jl_624, jl_625, jl_1000, jI_add, jI_sub, jI_mul, jI_neg, jI_div, ie_mod, jI_leT, jI_leF, jI_ltT, jI_ltF, jI_eqT, jI_eqF, jI_cl, jI_inT, forall_eq, true_implies, false_implies, implies_true, not_true_eq_false, not_false_eq_true, true_and, and_true, b2_0, b2_z, e7, e8]
              exact inn true (decide_eq_true ⟨q1, q2⟩).symm
            · simp (disch := omega) only [wY_draw_19, jl_0, jl_1, jl_2, jl_3, jl_4, jl_5, jl_6, jl_7, jl_8, jl_9, jl_12, jl_13, jl_16, jl_24, jl_25, jl_50, jl_168, jl_169, jl_624, jl_625, jl_1000, jI_add, jI_sub, jI_mul, jI_neg, jI_div, ie_mod, jI_leT, jI_leF, jI_ltT, jI_ltF, jI_eqT, jI_eqF, jI_cl, jI_inT, forall_eq, true_implies, false_implies, implies_true, not_true_eq_false, not_false_eq_true, true_and, and_true, b2_0, b2_z, e7, e8]
              exact inn false (decide_eq_false (fun z => q2 z.2)).symm
          · simp (disch := omega) only [wY_draw_19, jl_0, jl_1, jl_2, jl_3, jl_4, jl_5, jl_6, jl_7, jl_8, jl_9, jl_12, jl_13, jl_16, jl_24, jl_25, jl_50, jl_168, jl_169, jl_624, jl_625, jl_1000, jI_add, jI_sub, jI_mul, jI_neg, jI_div, ie_mod, jI_leT, jI_leF, jI_ltT, jI_ltF, jI_eqT, jI_eqF, jI_cl, jI_inT, forall_eq, true_implies, false_implies, implies_true, not_true_eq_false, not_false_eq_true, true_and, and_true, b2_0, b2_z, e7, e8]
            exact inn false (decide_eq_false (fun z => q1 z.1)).symm
      · simp (disch := omega) only [wX_draw_18, jl_0, jl_1, jl_2, jl_3, jl_4, jl_5, jl_6, jl_7, jl_8, jl_9, jl_12, jl_13, jl_16, jl_24, jl_25, jl_50, jl_168, jl_169, jl_624, jl_625, jl_1000, jI_add, jI_sub, jI_mul, jI_neg, jI_div, ie_mod, jI_leT, jI_leF, jI_ltT, jI_ltF, jI_eqT, jI_eqF, jI_cl, jI_inT, forall_eq, true_implies, false_implies, implies_true, not_true_eq_false, not_false_eq_true, true_and, and_true, b2_0, b2_z, wr_o, hR.1 l i, d1, wd_or]
        rw [wr_S _ _ (by omega) rfl]; exact ih
  · simp (disch := omega) only [wpX_draw, wpY_draw, xx_layF, yy_layF, jl_0, jl_1, jl_2, jl_3, jl_4, jl_5, jl_6, jl_7, jl_8, jl_9, jl_12, jl_13, jl_16, jl_24, jl_25, jl_50, jl_168, jl_169, jl_624, jl_625, jl_1000, jI_add, jI_sub, jI_mul, jI_neg, jI_div, ie_mod, jI_leT, jI_leF, jI_ltT, jI_ltF, jI_eqT, jI_eqF, jI_cl, jI_inT, forall_eq, true_implies, false_implies, implies_true, not_true_eq_false, not_false_eq_true, true_and, and_true, b2_0, b2_z]
    exact rl_mk hR
/-! ===== filling ===== -/
def tx (F : Int → Bool) (n : Nat) (i : Int) : Bool := xc (fun t => F (i - 2 * t)) n
theorem xc_split (f : Int → Bool) (a : Nat) : ∀ b : Nat, xc f (a + b) = (xc f a ^^ xc (fun t => f (a + t)) b) := by
  intro b
  induction b with
  | zero => show xc f a = (xc f a ^^ false); rw [Bool.xor_false]
  | succ b ih =>
    show (xc f (a + b) ^^ f ((a + b : Nat) : Int)) = (xc f a ^^ (xc (fun t => f (a + t)) b ^^ f (a + b)))
    rw [ih, show ((a + b : Nat) : Int) = (a : Int) + b by omega, Bool.xor_assoc]
theorem tx_2 (F : Int → Bool) (n : Nat) (i : Int) : tx F (n + n) i = (tx F n i ^^ tx F n (i - 2 * n)) := by
  unfold tx
  rw [xc_split]
  congr 1
  refine xc_c n (fun t _ _ => ?_)
  show F (i - 2 * (n + t)) = F (i - 2 * n - 2 * t)
  rw [show i - 2 * ((n : Int) + t) = i - 2 * n - 2 * t by omega]
theorem tx_n {F : Int → Bool} (hF : ∀ i : Int, i < 0 → F i = false) (n : Nat) {i : Int} (h : i < 0) : tx F n i = false := by
  unfold tx
  induction n with
  | zero => rfl
  | succ n ih =>
    show (xc (fun t => F (i - 2 * t)) n ^^ F (i - 2 * (n : Int))) = false
    rw [ih, hF _ (by omega)]; rfl
theorem wd_shlN {F : Int → Bool} (hF : ∀ i : Int, i < 0 → F i = false) {k : Int} (h : 0 ≤ k ∧ k < 32) : wd F <<< (jI k &&& 31) = wd (fun i => F (i - k)) := by
  rw [wd_shl F h]
  refine wd_c (fun i _ _ => ?_)
  by_cases e : k ≤ i
  · rw [decide_eq_true e, Bool.true_and]
  · rw [decide_eq_false e, Bool.false_and, hF _ (by omega)]
theorem xx_ins {post : Int32 → Prop} {F : Int → Bool} (hF : ∀ i : Int, i < 0 → F i = false) : wpX_inside post (wd F) = post (wd (fun i => decide (i % 2 = 1 ∧ i < 24) && tx F 16 (i - 1))) := by
  have st : ∀ (n : Nat) (k : Int), k = 2 * n → 0 ≤ k ∧ k < 32 → wd (tx F n) ^^^ (wd (tx F n) <<< (jI k &&& 31)) = wd (tx F (n + n)) := by
    intro n k hk h
    rw [wd_shlN (fun i hi => tx_n hF n hi) h, wd_xor]
    refine wd_c (fun i _ _ => ?_)
    rw [tx_2, hk]
  have e1 : wd F = wd (tx F 1) := wd_c (fun i _ _ => by
    show F i = (false ^^ F (i - 2 * ((0 : Nat) : Int)))
    rw [Bool.false_xor]; congr 1; omega)
  simp only [wpX_inside, forall_eq, jl_2, jl_4, jl_8, jl_16, jl_1]
  rw [e1, st 1 2 rfl (by omega), st 2 4 rfl (by omega), st 4 8 rfl (by omega), st 8 16 rfl (by omega), wd_shlN (fun i hi => tx_n hF 16 hi) (by omega), wd_mA, wd_and]
  refine congrArg post (wd_c (fun i _ _ => ?_))
  rw [Bool.and_comm]
theorem tx_x (F G : Int → Bool) (n : Nat) (i : Int) : tx (fun i => F i ^^ G i) n i = (tx F n i ^^ tx G n i) := by
  unfold tx
  induction n with
  | zero => rfl
  | succ n ih =>
    show (xc (fun t => F (i - 2 * t) ^^ G (i - 2 * t)) n ^^ (F (i - 2 * (n : Int)) ^^ G (i - 2 * (n : Int)))) = ((xc (fun t => F (i - 2 * t)) n ^^ F (i - 2 * (n : Int))) ^^ (xc (fun t => G (i - 2 * t)) n ^^ G (i - 2 * (n : Int))))
    rw [ih]
    generalize xc (fun t => F (i - 2 * t)) n = a, xc (fun t => G (i - 2 * t)) n = b, F (i - 2 * (n : Int)) = p, G (i - 2 * (n : Int)) = q
    revert a b p q
    decide
theorem tx_1 (a : Int) (B : Bool) : ∀ (n : Nat) (i : Int), (i - a) % 2 = 0 → tx (fun i' => decide (i' = a) && B) n i = (decide (a ≤ i ∧ i < a + 2 * n) && B) := by
  intro n i h
  unfold tx
  induction n with
  | zero => show false = _; rw [decide_eq_false (by omega)]; rfl
  | succ n ih =>
    show (xc (fun t => decide (i - 2 * t = a) && B) n ^^ (decide (i - 2 * (n : Int) = a) && B)) = _
    rw [ih]
    by_cases e : i - 2 * (n : Int) = a
    · rw [decide_eq_true e, decide_eq_false (show ¬ (a ≤ i ∧ i < a + 2 * (n : Int)) by omega), decide_eq_true (by omega)]
      simp
    · rw [decide_eq_false e]
      simp only [Bool.false_and, Bool.xor_false]
      congr 1
      exact decide_eq_decide.mpr (by omega)
/-- a step of the ring that passes to the left of a cell -/
def pY (xs ys : Int → Int) (i j k : Int) : Bool := decide (xs k = xs (k + 1) ∧ 2 * xs k < i) && stp xs ys k (2 * xs k) j
theorem tx_pst (xs ys : Int → Int) {i j k : Int} (hx : 0 ≤ xs k ∧ xs k ≤ 12) (hi : 0 ≤ i ∧ i < 25 ∧ i % 2 = 1) : tx (fun i' => pst xs ys k i' j) 16 (i - 1) = pY xs ys i j k := by
  have e : tx (fun i' => pst xs ys k i' j) 16 (i - 1) = tx (fun i' => decide (i' = 2 * xs k) && (decide (xs k = xs (k + 1)) && stp xs ys k (2 * xs k) j)) 16 (i - 1) := by
    unfold tx
    refine xc_c 16 (fun t _ _ => ?_)
    show pst xs ys k (i - 1 - 2 * t) j = (decide (i - 1 - 2 * t = 2 * xs k) && (decide (xs k = xs (k + 1)) && stp xs ys k (2 * xs k) j))
    unfold pst
    by_cases z : i - 1 - 2 * t = 2 * xs k
    · rw [z]
      simp
    · rw [decide_eq_false z, decide_eq_false (fun q => z q.2)]
      simp
  rw [e, tx_1 _ _ _ _ (by omega)]
  unfold pY
  rw [← Bool.and_assoc]
  congr 1
  rw [← Bool.decide_and]
  exact decide_eq_decide.mpr (by omega)
theorem tx_psd (xs ys : Int → Int) {i j : Int} (hi : 0 ≤ i ∧ i < 25 ∧ i % 2 = 1) : ∀ m : Nat, (∀ k : Int, 0 ≤ k → k < m → 0 ≤ xs k ∧ xs k ≤ 12) → tx (fun i' => xc (fun k => pst xs ys k i' j) m) 16 (i - 1) = xc (fun k => pY xs ys i j k) m := by
  intro m
  induction m with
  | zero =>
    intro _
    show tx (fun _ => false) 16 (i - 1) = false
    rfl
  | succ m ih =>
    intro h
    show tx (fun i' => xc (fun k => pst xs ys k i' j) m ^^ pst xs ys m i' j) 16 (i - 1) = (xc (fun k => pY xs ys i j k) m ^^ pY xs ys i j m)
    rw [tx_x, ih (fun k a b => h k a (by omega)), tx_pst xs ys (h m (by omega) (by omega)) hi]
theorem cn_par (p : Int → Bool) : ∀ n : Nat, cn p n % 2 = o1 (xc p n) := by
  intro n
  induction n with
  | zero => rfl
  | succ n ih =>
    rw [cn_s]
    show _ = o1 (xc p n ^^ p n)
    revert ih
    cases xc p n <;> cases p n <;> intro ih <;> simp [o1] at * <;> omega
theorem cn_s2 (p : Int → Bool) {i : Int} (h : 0 ≤ i) : cn p (i + 1).toNat = cn p i.toNat + o1 (p i) := by
  rw [show (i + 1).toNat = i.toNat + 1 by omega, cn_s]
  congr 3
  omega
section
variable {cy : Int32} {lys fil mad st px py lab : Nat → Int32}
theorem yy_pas {post : Int32 → Prop} {xs ys : Int → Int} {i j m : Int} (h : 0 ≤ i ∧ i < 25 ∧ 0 ≤ j ∧ j < 25 ∧ 0 ≤ m ∧ m ≤ 24)
    (hk : ∀ k : Int, 0 ≤ k → k ≤ m → 0 ≤ xs k ∧ xs k ≤ 12 ∧ 0 ≤ ys k ∧ ys k ≤ 12 ∧ px k.toNat = jI (xs k) ∧ py k.toNat = jI (ys k))
    (hp : post (jI (cn (pY xs ys i j) m.toNat))) : wpY_passes post (cy, lys, fil, mad, st, px, py, lab) (jI i) (jI j) (jI m) := by
  simp only [wpY_passes]
  refine lj_a (fun n k s => wY_passes_6 post (jI i) (jI j) (jI m) cy lys fil mad st px py lab n s (jI k)) (fun k => jI (cn (pY xs ys i j) k.toNat)) 0 m rfl (by omega) (fun n => ?_) (fun n k h0 h1 ih => ?_)
  · simp (disch := omega) only [wY_passes_6, jl_0, jl_1, jl_2, jl_3, jl_4, jl_5, jl_6, jl_7, jl_8, jl_9, jl_12, jl_13, jl_16, jl_24, jl_25, jl_50, jl_168, jl_169, jl_624, jl_625, jl_1000, jI_add, jI_sub, jI_mul, jI_neg, jI_div, ie_mod, jI_leT, jI_leF, jI_ltT, jI_ltF, jI_eqT, jI_eqF, jI_cl, jI_inT, forall_eq, true_implies, false_implies, implies_true, not_true_eq_false, not_false_eq_true, true_and, and_true, b2_0, b2_z]; exact hp
  · obtain ⟨g1, g2, g3, g4, g5, g6⟩ := hk k h0 (by omega)
    obtain ⟨m1, m2, m3, m4, m5, m6⟩ := hk (k + 1) (by omega) (by omega)
    rw [cn_s2 _ h0] at ih
    by_cases e1 : xs k = xs (k + 1)
    · by_cases e2 : i ≤ 2 * xs k
      · simp (disch := omega) only [wY_passes_6, jl_0, jl_1, jl_2, jl_3, jl_4, jl_5, jl_6, jl_7, jl_8, jl_9, jl_12, jl_13, jl_16, jl_24, jl_25, jl_50, jl_168, jl_169, jl_624, jl_625, jl_1000, jI_add, jI_sub, jI_mul, jI_neg, jI_div, ie_mod, jI_leT, jI_leF, jI_ltT, jI_ltF, jI_eqT, jI_eqF, jI_cl, jI_inT, forall_eq, true_implies, false_implies, implies_true, not_true_eq_false, not_false_eq_true, true_and, and_true, b2_0, b2_z, g5, m5]
        have : pY xs ys i j k = false := by
          unfold pY
          rw [decide_eq_false (by omega)]; rfl
        rw [this, show o1 false = 0 from rfl, Int.add_zero] at ih
        exact ih
      · simp (disch := omega) only [wY_passes_6, jl_0, jl_1, jl_2, jl_3, jl_4, jl_5, jl_6, jl_7, jl_8, jl_9, jl_12, jl_13, jl_16, jl_24, jl_25, jl_50, jl_168, jl_169, jl_624, jl_625, jl_1000, jI_add, jI_sub, jI_mul, jI_neg, jI_div, ie_mod, jI_leT, jI_leF, jI_ltT, jI_ltF, jI_eqT, jI_eqF, jI_cl, jI_inT, forall_eq, true_implies, false_implies, implies_true, not_true_eq_false, not_false_eq_true, true_and, and_true, b2_0, b2_z, g5, m5]
        rw [yy_os (xs := xs) (ys := ys) (by omega) ⟨g1, g2, g3, g4, g5, g6⟩ ⟨m1, m2, m3, m4, m5, m6⟩]
        have : pY xs ys i j k = stp xs ys k (2 * xs k) j := by
          unfold pY
          rw [decide_eq_true (by omega)]; rfl
        rw [this] at ih
        simp only [b2_0]
        refine tf_c (fun e => ?_) (fun e => ?_)
        · rw [e, show o1 false = 0 from rfl, Int.add_zero] at ih; exact ih
        · rw [e, show o1 true = 1 from rfl] at ih; exact ih
    · simp (disch := omega) only [wY_passes_6, jl_0, jl_1, jl_2, jl_3, jl_4, jl_5, jl_6, jl_7, jl_8, jl_9, jl_12, jl_13, jl_16, jl_24, jl_25, jl_50, jl_168, jl_169, jl_624, jl_625, jl_1000, jI_add, jI_sub, jI_mul, jI_neg, jI_div, ie_mod, jI_leT, jI_leF, jI_ltT, jI_ltF, jI_eqT, jI_eqF, jI_cl, jI_inT, forall_eq, true_implies, false_implies, implies_true, not_true_eq_false, not_false_eq_true, true_and, and_true, b2_0, b2_z, g5, m5]
      have : pY xs ys i j k = false := by
        unfold pY
        rw [decide_eq_false (by omega)]; rfl
      rw [this, show o1 false = 0 from rfl, Int.add_zero] at ih
      exact ih
end
end
section
def fS (xs ys : Int → Int) (m : Int) (i j : Int) : Bool := decide ((0 ≤ i ∧ i < 25 ∧ 0 ≤ j ∧ j < 25) ∧ i % 2 = 1 ∧ j % 2 = 1) && xc (fun k => pY xs ys i j k) m.toNat
theorem fS_o (xs ys : Int → Int) (m : Int) : SO (fS xs ys m) := by
  intro i j h
  unfold fS
  rw [decide_eq_false (fun z => h z.1)]; rfl
theorem mx_o {op : Int} {A B : Int → Int → Bool} (hA : SO A) (hB : SO B) : SO (fun i j => mx op (A i j) (B i j)) := by
  intro i j h
  show mx op (A i j) (B i j) = false
  rw [hA i j h, hB i j h]
  unfold mx
  repeat' split
  all_goals rfl
theorem psd_neg {xs ys : Int → Int} {j : Int} : ∀ m : Nat, (∀ k : Int, 0 ≤ k → k < m → 0 ≤ xs k) → ∀ i : Int, i < 0 → xc (fun k => pst xs ys k i j) m = false := by
  intro m
  induction m with
  | zero => intro _ _ _; rfl
  | succ m ih =>
    intro h i hi
    show (xc (fun k => pst xs ys k i j) m ^^ pst xs ys m i j) = false
    rw [ih (fun k a b => h k a (by omega)) i hi]
    unfold pst
    have := h m (by omega) (by omega)
    rw [decide_eq_false (by omega)]; rfl
theorem we_xx (f : Nat → Int32) (o m : Int) (b : Int32) : we (we f o m (fun z => f z.toNat ^^^ b)) o m (fun z => we f o m (fun z => f z.toNat ^^^ b) z.toNat ^^^ b) = f := by
  funext k
  unfold we
  by_cases e : (o ≤ (k : Int) ∧ (k : Int) < o + 2 * m) ∧ ((k : Int) - o) % 2 = 0
  · rw [if_pos e]
    show (if (o ≤ (((k : Int).toNat : Nat) : Int) ∧ (((k : Int).toNat : Nat) : Int) < o + 2 * m) ∧ ((((k : Int).toNat : Nat) : Int) - o) % 2 = 0 then f ((((k : Int).toNat : Nat) : Int)).toNat ^^^ b else f ((k : Int).toNat)) ^^^ b = f k
    rw [show (((k : Int).toNat : Nat) : Int) = (k : Int) by omega, if_pos e, show (k : Int).toNat = k by omega]
    apply b_ext
    intro i hi
    rw [b_xor, b_xor]
    cases bt (f k) i <;> cases bt b i <;> rfl
  · rw [if_neg e, if_neg e]
section
variable {cy : Int32} {lys fil mad st px py lab : Nat → Int32}
theorem yy_f143 {post : Int32 → SY → Prop} {L : Int → Int → Int → Bool} (hY : RY L lys) (hO : RO L) {xs ys : Int → Int} {l op m : Int} (hl : 0 ≤ l ∧ l < 6) (hop : 0 ≤ op ∧ op ≤ 3) (hm : 0 ≤ m ∧ m ≤ 24)
    (hk : ∀ k : Int, 0 ≤ k → k ≤ m → 0 ≤ xs k ∧ xs k ≤ 12 ∧ 0 ≤ ys k ∧ ys k ≤ 12 ∧ px k.toNat = jI (xs k) ∧ py k.toNat = jI (ys k))
    (h : ∀ fil' mad' st', post (jI 1) (cy, wr lys (625 * l) 625 (fun n => b2 (clo (fun i j => mx op (L l i j) (clo (fS xs ys m) i j)) (n / 25) (n % 25))), fil', mad', st', px, py, lab)) :
    ∃ n, wY_fill_143 post (jI l) (jI op) (jI m) cy n (jI 0) lys fil mad st px py lab := by
  refine lj_a (fun n i s => wY_fill_143 post (jI l) (jI op) (jI m) cy n (jI i) lys fil s st px py lab) (fun i => fl mad i (fun n => b2 (fS xs ys m (n / 25) (n % 25)))) 0 625 (fl_0 _ _).symm (by omega) (fun n => ?_) (fun n i h0 h1 ih => ?_)
  · simp (disch := omega) only [wY_fill_143, jl_0, jl_1, jl_2, jl_3, jl_4, jl_5, jl_6, jl_7, jl_8, jl_9, jl_12, jl_13, jl_16, jl_24, jl_25, jl_50, jl_168, jl_169, jl_624, jl_625, jl_1000, jI_add, jI_sub, jI_mul, jI_neg, jI_div, ie_mod, jI_leT, jI_leF, jI_ltT, jI_ltF, jI_eqT, jI_eqF, jI_cl, jI_inT, forall_eq, true_implies, false_implies, implies_true, not_true_eq_false, not_false_eq_true, true_and, and_true, b2_0, b2_z]
    refine yy_close (S := fS xs ys m) (fun j j0 j1 => fl_r (by omega)) (fS_o xs ys m) (fun st' => ?_)
    dsimp only
    refine lj_a (fun n i s => wY_fill_222 post (jI l) (jI op) cy n (jI i) lys s (fl (fl mad 625 (fun n => b2 (fS xs ys m (n / 25) (n % 25)))) 625 (fun n => b2 (clo (fS xs ys m) (n / 25) (n % 25)))) st' px py lab) (fun i => fl fil i (fun n => b2 (clo (fS xs ys m) (n / 25) (n % 25)))) 0 625 (fl_0 _ _).symm (by omega) (fun n => ?_) (fun n i h0 h1 ih => ?_)
    · simp (disch := omega) only [wY_fill_222, jl_0, jl_1, jl_2, jl_3, jl_4, jl_5, jl_6, jl_7, jl_8, jl_9, jl_12, jl_13, jl_16, jl_24, jl_25, jl_50, jl_168, jl_169, jl_624, jl_625, jl_1000, jI_add, jI_sub, jI_mul, jI_neg, jI_div, ie_mod, jI_leT, jI_leF, jI_ltT, jI_ltF, jI_eqT, jI_eqF, jI_cl, jI_inT, forall_eq, true_implies, false_implies, implies_true, not_true_eq_false, not_false_eq_true, true_and, and_true, b2_0, b2_z]
      refine lj_a (fun n i s => wY_fill_253 post (jI l) (jI op) cy n (jI i) lys (fl fil 625 (fun n => b2 (clo (fS xs ys m) (n / 25) (n % 25)))) s st' px py lab) (fun i => fl (fl (fl mad 625 (fun n => b2 (fS xs ys m (n / 25) (n % 25)))) 625 (fun n => b2 (clo (fS xs ys m) (n / 25) (n % 25)))) i (fun n => b2 (mx op (L l (n / 25) (n % 25)) (clo (fS xs ys m) (n / 25) (n % 25))))) 0 625 (fl_0 _ _).symm (by omega) (fun n => ?_) (fun n i h0 h1 ih => ?_)
      · simp (disch := omega) only [wY_fill_253, jl_0, jl_1, jl_2, jl_3, jl_4, jl_5, jl_6, jl_7, jl_8, jl_9, jl_12, jl_13, jl_16, jl_24, jl_25, jl_50, jl_168, jl_169, jl_624, jl_625, jl_1000, jI_add, jI_sub, jI_mul, jI_neg, jI_div, ie_mod, jI_leT, jI_leF, jI_ltT, jI_ltF, jI_eqT, jI_eqF, jI_cl, jI_inT, forall_eq, true_implies, false_implies, implies_true, not_true_eq_false, not_false_eq_true, true_and, and_true, b2_0, b2_z]
        refine yy_close (S := fun i j => mx op (L l i j) (clo (fS xs ys m) i j)) (fun j j0 j1 => fl_r (by omega)) (mx_o (hO l) (clo_o (fS_o xs ys m))) (fun st' => ?_)
        dsimp only
        refine yy_keep hl (fun n => clo (fun i j => mx op (L l i j) (clo (fS xs ys m) i j)) (n / 25) (n % 25)) (fun n n0 n1 => fl_r (by omega)) ?_
        dsimp only
        exact h _ _ _
      · simp (disch := omega) only [wY_fill_253, jl_0, jl_1, jl_2, jl_3, jl_4, jl_5, jl_6, jl_7, jl_8, jl_9, jl_12, jl_13, jl_16, jl_24, jl_25, jl_50, jl_168, jl_169, jl_624, jl_625, jl_1000, jI_add, jI_sub, jI_mul, jI_neg, jI_div, ie_mod, jI_leT, jI_leF, jI_ltT, jI_ltF, jI_eqT, jI_eqF, jI_cl, jI_inT, forall_eq, true_implies, false_implies, implies_true, not_true_eq_false, not_false_eq_true, true_and, and_true, b2_0, b2_z, ry_n hY, fl_r, yy_comb, b2_nar]
        rw [fl_S _ _ h0 rfl]; exact ih
    · simp (disch := omega) only [wY_fill_222, jl_0, jl_1, jl_2, jl_3, jl_4, jl_5, jl_6, jl_7, jl_8, jl_9, jl_12, jl_13, jl_16, jl_24, jl_25, jl_50, jl_168, jl_169, jl_624, jl_625, jl_1000, jI_add, jI_sub, jI_mul, jI_neg, jI_div, ie_mod, jI_leT, jI_leF, jI_ltT, jI_ltF, jI_eqT, jI_eqF, jI_cl, jI_inT, forall_eq, true_implies, false_implies, implies_true, not_true_eq_false, not_false_eq_true, true_and, and_true, b2_0, b2_z, fl_r, b2_nar]
      rw [fl_S _ _ h0 rfl]; exact ih
  · by_cases e1 : i / 25 % 2 = 1
    · by_cases e2 : i % 25 % 2 = 1
      · simp (disch := omega) only [wY_fill_143, jl_0, jl_1, jl_2, jl_3, jl_4, jl_5, jl_6, jl_7, jl_8, jl_9, jl_12, jl_13, jl_16, jl_24, jl_25, jl_50, jl_168, jl_169, jl_624, jl_625, jl_1000, jI_add, jI_sub, jI_mul, jI_neg, jI_div, ie_mod, jI_leT, jI_leF, jI_ltT, jI_ltF, jI_eqT, jI_eqF, jI_cl, jI_inT, forall_eq, true_implies, false_implies, implies_true, not_true_eq_false, not_false_eq_true, true_and, and_true, b2_0, b2_z]
        refine yy_pas (xs := xs) (ys := ys) (by omega) hk ?_
        have hn := cn_nn (pY xs ys (i / 25) (i % 25)) m.toNat
        have hx := cn_max (pY xs ys (i / 25) (i % 25)) m.toNat
        have hpar := cn_par (pY xs ys (i / 25) (i % 25)) m.toNat
        have hf : fS xs ys m (i / 25) (i % 25) = xc (fun k => pY xs ys (i / 25) (i % 25) k) m.toNat := by
          unfold fS
          rw [decide_eq_true (by omega)]; rfl
        rw [show (fun k => pY xs ys (i / 25) (i % 25) k) = pY xs ys (i / 25) (i % 25) from rfl] at hf
        generalize cn (pY xs ys (i / 25) (i % 25)) m.toNat = r at *
        cases e : xc (pY xs ys (i / 25) (i % 25)) m.toNat with
        | false =>
          rw [e] at hpar hf
          have : r % 2 = 0 := hpar
          simp (disch := omega) only [jl_0, jl_1, jl_2, jl_3, jl_4, jl_5, jl_6, jl_7, jl_8, jl_9, jl_12, jl_13, jl_16, jl_24, jl_25, jl_50, jl_168, jl_169, jl_624, jl_625, jl_1000, jI_add, jI_sub, jI_mul, jI_neg, jI_div, ie_mod, jI_leT, jI_leF, jI_ltT, jI_ltF, jI_eqT, jI_eqF, jI_cl, jI_inT, forall_eq, true_implies, false_implies, implies_true, not_true_eq_false, not_false_eq_true, true_and, and_true, b2_0, b2_z, nb_0]
          rw [fl_S _ _ h0 (by rw [hf])]; exact ih
        | true =>
          rw [e] at hpar hf
          have : r % 2 = 1 := hpar
          simp (disch := omega) only [jl_0, jl_1, jl_2, jl_3, jl_4, jl_5, jl_6, jl_7, jl_8, jl_9, jl_12, jl_13, jl_16, jl_24, jl_25, jl_50, jl_168, jl_169, jl_624, jl_625, jl_1000, jI_add, jI_sub, jI_mul, jI_neg, jI_div, ie_mod, jI_leT, jI_leF, jI_ltT, jI_ltF, jI_eqT, jI_eqF, jI_cl, jI_inT, forall_eq, true_implies, false_implies, implies_true, not_true_eq_false, not_false_eq_true, true_and, and_true, b2_0, b2_z, nb_1]
          rw [fl_S _ _ h0 (by rw [hf])]; exact ih
      · have hf : fS xs ys m (i / 25) (i % 25) = false := by
          unfold fS
          rw [decide_eq_false (by omega)]; rfl
        simp (disch := omega) only [wY_fill_143, jl_0, jl_1, jl_2, jl_3, jl_4, jl_5, jl_6, jl_7, jl_8, jl_9, jl_12, jl_13, jl_16, jl_24, jl_25, jl_50, jl_168, jl_169, jl_624, jl_625, jl_1000, jI_add, jI_sub, jI_mul, jI_neg, jI_div, ie_mod, jI_leT, jI_leF, jI_ltT, jI_ltF, jI_eqT, jI_eqF, jI_cl, jI_inT, forall_eq, true_implies, false_implies, implies_true, not_true_eq_false, not_false_eq_true, true_and, and_true, b2_0, b2_z, nb_0]
        rw [fl_S _ _ h0 (by rw [hf])]; exact ih
    · have hf : fS xs ys m (i / 25) (i % 25) = false := by
        unfold fS
        rw [decide_eq_false (by omega)]; rfl
      simp (disch := omega) only [wY_fill_143, jl_0, jl_1, jl_2, jl_3, jl_4, jl_5, jl_6, jl_7, jl_8, jl_9, jl_12, jl_13, jl_16, jl_24, jl_25, jl_50, jl_168, jl_169, jl_624, jl_625, jl_1000, jI_add, jI_sub, jI_mul, jI_neg, jI_div, ie_mod, jI_leT, jI_leF, jI_ltT, jI_ltF, jI_eqT, jI_eqF, jI_cl, jI_inT, forall_eq, true_implies, false_implies, implies_true, not_true_eq_false, not_false_eq_true, true_and, and_true, b2_0, b2_z, nb_0]
      rw [fl_S _ _ h0 (by rw [hf])]; exact ih
end
section
variable {c bd : Int32} {rows drawn passed work inner crn rfr rto par cel opn rst : Nat → Int32}
theorem xx_f127 {post : Int32 → SX → Prop} {L : Int → Int → Int → Bool} (hX : RX L rows) (hO : RO L) {xs ys : Int → Int} {l op m p t e : Int} (hl : 0 ≤ l ∧ l < 6) (hop : 0 ≤ op ∧ op ≤ 3) (hm : 0 ≤ m ∧ m ≤ 24)
    (h : 0 ≤ p ∧ p ≤ 12 ∧ 0 ≤ t ∧ t ≤ e ∧ e ≤ 12) (hk : ∀ k : Int, 0 ≤ k → k ≤ m → 0 ≤ xs k ∧ xs k ≤ 12)
    (hP : ∀ j : Int, 0 ≤ j → j < 25 → j % 2 = 1 → we passed (2 * t + 1) (e - t) (fun z => passed z.toNat ^^^ wd (fun i => decide (i = 2 * p))) j.toNat = wd (fun i => psd xs ys m i j))
    (hp : ∀ work', post (jI 1) (c, bd, wr rows (25 * l) 25 (fun j => wd (fun i => clo (fun i j => mx op (L l i j) (clo (fS xs ys m) i j)) i j)), drawn, passed, work', inner, crn, rfr, rto, par, cel, opn, rst)) :
    ∃ n, wX_fill_127 post (jI l) (jI op) (jI p) (jI t) (jI e) c bd n (jI 0) rows drawn (we passed (2 * t + 1) (e - t) (fun z => passed z.toNat ^^^ wd (fun i => decide (i = 2 * p)))) work inner crn rfr rto par cel opn rst := by
  refine lj_a (fun n i s => wX_fill_127 post (jI l) (jI op) (jI p) (jI t) (jI e) c bd n (jI i) rows drawn (we passed (2 * t + 1) (e - t) (fun z => passed z.toNat ^^^ wd (fun i => decide (i = 2 * p)))) s inner crn rfr rto par cel opn rst) (fun i => fl work i (fun j => wd (fun i => fS xs ys m i j))) 0 25 (fl_0 _ _).symm (by omega) (fun n => ?_) (fun n i h0 h1 ih => ?_)
  · simp (disch := omega) only [wX_fill_127, jl_0, jl_1, jl_2, jl_3, jl_4, jl_5, jl_6, jl_7, jl_8, jl_9, jl_12, jl_13, jl_16, jl_24, jl_25, jl_50, jl_168, jl_169, jl_624, jl_625, jl_1000, jI_add, jI_sub, jI_mul, jI_neg, jI_div, ie_mod, jI_leT, jI_leF, jI_ltT, jI_ltF, jI_eqT, jI_eqF, jI_cl, jI_inT, forall_eq, true_implies, false_implies, implies_true, not_true_eq_false, not_false_eq_true, true_and, and_true, b2_0, b2_z]
    refine xx_pass (by omega) ?_
    rw [we_xx]
    dsimp only
    refine xx_close (S := fS xs ys m) (fun j j0 j1 => fl_r (by omega)) (fS_o xs ys m) ?_
    dsimp only
    refine lj_a (fun n i s => wX_fill_184 post (jI l) (jI op) c bd n (jI i) rows drawn passed s inner crn rfr rto par cel opn rst) (fun i => fl (fl (fl work 25 (fun j => wd (fun i => fS xs ys m i j))) 25 (fun j => wd (fun i => clo (fS xs ys m) i j))) i (fun j => wd (fun i => mx op (L l i j) (clo (fS xs ys m) i j)))) 0 25 (fl_0 _ _).symm (by omega) (fun n => ?_) (fun n i h0 h1 ih => ?_)
    · simp (disch := omega) only [wX_fill_184, jl_0, jl_1, jl_2, jl_3, jl_4, jl_5, jl_6, jl_7, jl_8, jl_9, jl_12, jl_13, jl_16, jl_24, jl_25, jl_50, jl_168, jl_169, jl_624, jl_625, jl_1000, jI_add, jI_sub, jI_mul, jI_neg, jI_div, ie_mod, jI_leT, jI_leF, jI_ltT, jI_ltF, jI_eqT, jI_eqF, jI_cl, jI_inT, forall_eq, true_implies, false_implies, implies_true, not_true_eq_false, not_false_eq_true, true_and, and_true, b2_0, b2_z]
      refine xx_close (S := fun i j => mx op (L l i j) (clo (fS xs ys m) i j)) (fun j j0 j1 => fl_r (by omega)) (mx_o (hO l) (clo_o (fS_o xs ys m))) ?_
      dsimp only
      refine xx_keep hl ?_
      dsimp only
      have e : wr rows (25 * l) 25 (fun j => fl (fl (fl (fl work 25 (fun j => wd (fun i => fS xs ys m i j))) 25 (fun j => wd (fun i => clo (fS xs ys m) i j))) 25 (fun j => wd (fun i => mx op (L l i j) (clo (fS xs ys m) i j)))) 25 (fun j => wd (fun i => clo (fun i j => mx op (L l i j) (clo (fS xs ys m) i j)) i j)) j.toNat) = wr rows (25 * l) 25 (fun j => wd (fun i => clo (fun i j => mx op (L l i j) (clo (fS xs ys m) i j)) i j)) := by
        funext k
        unfold wr
        by_cases z : 25 * l ≤ (k : Int) ∧ (k : Int) < 25 * l + 25
        · rw [if_pos z, if_pos z]
          exact fl_r (by omega)
        · rw [if_neg z, if_neg z]
      rw [e]
      exact hp _
    · simp (disch := omega) only [wX_fill_184, jl_0, jl_1, jl_2, jl_3, jl_4, jl_5, jl_6, jl_7, jl_8, jl_9, jl_12, jl_13, jl_16, jl_24, jl_25, jl_50, jl_168, jl_169, jl_624, jl_625, jl_1000, jI_add, jI_sub, jI_mul, jI_neg, jI_div, ie_mod, jI_leT, jI_leF, jI_ltT, jI_ltF, jI_eqT, jI_eqF, jI_cl, jI_inT, forall_eq, true_implies, false_implies, implies_true, not_true_eq_false, not_false_eq_true, true_and, and_true, b2_0, b2_z, hX l i, fl_o, fl_r, xx_mix]
      rw [fl_S _ _ h0 rfl]; exact ih
  · by_cases ei : i % 2 = 1
    · have hF : ∀ t : Int, t < 0 → psd xs ys m t i = false := fun t ht => psd_neg m.toNat (fun k a b => (hk k a (by omega)).1) t ht
      simp (disch := omega) only [wX_fill_127, jl_0, jl_1, jl_2, jl_3, jl_4, jl_5, jl_6, jl_7, jl_8, jl_9, jl_12, jl_13, jl_16, jl_24, jl_25, jl_50, jl_168, jl_169, jl_624, jl_625, jl_1000, jI_add, jI_sub, jI_mul, jI_neg, jI_div, ie_mod, jI_leT, jI_leF, jI_ltT, jI_ltF, jI_eqT, jI_eqF, jI_cl, jI_inT, forall_eq, true_implies, false_implies, implies_true, not_true_eq_false, not_false_eq_true, true_and, and_true, b2_0, b2_z, jI_a1, hP i h0 h1 ei]
      rw [xx_ins hF]
      rw [fl_S _ _ h0 ?_]
      · exact ih
      · refine wd_c (fun q q0 q1 => ?_)
        unfold fS
        by_cases eq : q % 2 = 1 ∧ q < 24
        · rw [decide_eq_true eq, decide_eq_true (by omega), Bool.true_and, Bool.true_and]
          unfold psd
          exact tx_psd xs ys (by omega) m.toNat (fun k a b => hk k a (by omega))
        · rw [decide_eq_false eq, decide_eq_false (by omega)]; rfl
    · simp (disch := omega) only [wX_fill_127, jl_0, jl_1, jl_2, jl_3, jl_4, jl_5, jl_6, jl_7, jl_8, jl_9, jl_12, jl_13, jl_16, jl_24, jl_25, jl_50, jl_168, jl_169, jl_624, jl_625, jl_1000, jI_add, jI_sub, jI_mul, jI_neg, jI_div, ie_mod, jI_leT, jI_leF, jI_ltT, jI_ltF, jI_eqT, jI_eqF, jI_cl, jI_inT, forall_eq, true_implies, false_implies, implies_true, not_true_eq_false, not_false_eq_true, true_and, and_true, b2_0, b2_z, jI_a1]
      rw [fl_S _ _ h0 ?_]
      · exact ih
      · refine wd_J0.trans (wd_c (fun q q0 q1 => ?_))
        unfold fS
        rw [decide_eq_false (by omega)]; rfl
end
theorem fS_eq {xs ys : Int → Int} {c : Int} (hc : 1 ≤ c) (hy : ys (c - 1) = ys c) : fS xs ys (c - 1) = fS xs ys c := by
  funext i j
  unfold fS
  by_cases e : (0 ≤ i ∧ i < 25 ∧ 0 ≤ j ∧ j < 25) ∧ i % 2 = 1 ∧ j % 2 = 1
  · rw [decide_eq_true e, Bool.true_and, Bool.true_and]
    have := xc_s (fun k => pY xs ys i j k) (i := c - 1) (by omega)
    rw [show c - 1 + 1 = c by omega] at this
    rw [this]
    have e2 : pY xs ys i j (c - 1) = false := by
      unfold pY stp
      rw [show c - 1 + 1 = c by omega, hy, Bool.and_eq_false_iff]
      exact Or.inr (decide_eq_false (by omega))
    rw [e2, Bool.xor_false]
  · rw [decide_eq_false e]; rfl
theorem i_vc_fill {k : Nat} {u : SX} {v : SY} (I : i_Rel k u v) (hk : k + 5 ≤ 2560) (v1 : Int32) (v2 : Int32) : wpX_fill (fun r u' => wpY_fill (fun r' v' => r' = r ∧ i_Rel (k + 5) u' v') v v1 v2) u v1 v2 := by
  refine rl_el (P := fun u v => wpX_fill (fun r u' => wpY_fill (fun r' v' => r' = r ∧ i_Rel (k + 5) u' v') v v1 v2) u v1 v2) ?_ I
  intro L c xs ys bd rows drawn passed work inner crn rfr rto par cel opn rst lys fil mad st px py lab hR
  obtain ⟨l, a1, a2, rfl⟩ := jI_ex v1
  obtain ⟨op, b1, b2', rfl⟩ := jI_ex v2
  have hP := hR.2.2.2.2
  have hc0 := hP.1
  have hc24 := hP.2.1
  by_cases hl : 0 ≤ l ∧ l < 6
  · by_cases hop : 0 ≤ op ∧ op ≤ 3
    · by_cases hc : c = 0
      · subst hc
        simp (disch := omega) only [wpX_fill, wpY_fill, xx_lay, yy_lay, jl_0, jl_1, jl_2, jl_3, jl_4, jl_5, jl_6, jl_7, jl_8, jl_9, jl_12, jl_13, jl_16, jl_24, jl_25, jl_50, jl_168, jl_169, jl_624, jl_625, jl_1000, jI_add, jI_sub, jI_mul, jI_neg, jI_div, ie_mod, jI_leT, jI_leF, jI_ltT, jI_ltF, jI_eqT, jI_eqF, jI_cl, jI_inT, forall_eq, true_implies, false_implies, implies_true, not_true_eq_false, not_false_eq_true, true_and, and_true, b2_0, b2_z]
        exact rl_mk hR
      · obtain ⟨d1, d2⟩ := hP.2.2.2 (by omega)
        obtain ⟨e1, e2, e3, e4, e5, e6, e7, e8⟩ := hP.2.2.1 (c - 1) (by omega) (by omega)
        rw [show 2 * (c - 1) = 2 * c - 2 by omega] at e5
        rw [show 2 * (c - 1) + 1 = 2 * c - 1 by omega] at e6
        have f0 := hP.2.2.1 0 (by omega) (by omega)
        have g1 := f0.1
        have g2 := f0.2.1
        have g3 := f0.2.2.1
        have g4 := f0.2.2.2.1
        have g5 : crn 0 = jI (xs 0) := f0.2.2.2.2.1
        have g6 : crn 1 = jI (ys 0) := f0.2.2.2.2.2.1
        have g7 : px 0 = jI (xs 0) := f0.2.2.2.2.2.2.1
        have g8 : py 0 = jI (ys 0) := f0.2.2.2.2.2.2.2
        have hk1 : ∀ q : Int, 0 ≤ q → q ≤ c → 0 ≤ xs1 xs c (xs 0) q ∧ xs1 xs c (xs 0) q ≤ 12 ∧ 0 ≤ xs1 ys c (ys 0) q ∧ xs1 ys c (ys 0) q ≤ 12 := by
          intro q q0 q1
          by_cases z : q = c
          · subst z; rw [xs1_c, xs1_c]; exact ⟨g1, g2, g3, g4⟩
          · rw [xs1_n xs (by omega), xs1_n ys (by omega)]
            have := hP.2.2.1 q q0 (by omega)
            exact ⟨this.1, this.2.1, this.2.2.1, this.2.2.2.1⟩
        by_cases hd : xs (c - 1) = xs 0 ∨ ys (c - 1) = ys 0
        · have fin : ∀ t e : Int, t = min (ys (c - 1)) (ys 0) → e = ys (c - 1) + ys 0 - t → ∃ n, wX_fill_127 (fun r u' => wpY_fill (fun r' v' => r' = r ∧ i_Rel (k + 5) u' v') (jI c, lys, fil, mad, st, px, py, lab) (jI l) (jI op)) (jI l) (jI op) (jI (xs (c - 1))) (jI t) (jI e) (jI c) bd n (jI 0) rows drawn (we passed (2 * t + 1) (e - t) (fun z => passed z.toNat ^^^ wd (fun i => decide (i = 2 * xs (c - 1))))) work inner crn rfr rto par cel opn rst := by
            intro t e ht he
            refine xx_f127 (xs := xs1 xs c (xs 0)) (ys := xs1 ys c (ys 0)) (m := c) hR.1 hR.2.2.1 hl hop (by omega) (by omega) (fun q q0 q1 => ⟨(hk1 q q0 q1).1, (hk1 q q0 q1).2.1⟩) (pas_r (by omega) (by omega) (by omega) ht (by omega) hd d2) (fun work' => ?_)
            have hS : SO (fun i j => mx op (L l i j) (clo (fS (xs1 xs c (xs 0)) (xs1 ys c (ys 0)) c) i j)) := mx_o (hR.2.2.1 l) (clo_o (fS_o _ _ _))
            by_cases hz : xs (c - 1) = xs 0 ∧ ys (c - 1) = ys 0
            · simp (disch := omega) only [wpY_fill, yy_lay, jl_0, jl_1, jl_2, jl_3, jl_4, jl_5, jl_6, jl_7, jl_8, jl_9, jl_12, jl_13, jl_16, jl_24, jl_25, jl_50, jl_168, jl_169, jl_624, jl_625, jl_1000, jI_add, jI_sub, jI_mul, jI_neg, jI_div, ie_mod, jI_leT, jI_leF, jI_ltT, jI_ltF, jI_eqT, jI_eqF, jI_cl, jI_inT, forall_eq, true_implies, false_implies, implies_true, not_true_eq_false, not_false_eq_true, true_and, and_true, b2_0, b2_z, e7, e8, g7, g8]
              refine yy_f143 (xs := xs1 xs c (xs 0)) (ys := xs1 ys c (ys 0)) (m := c - 1) hR.2.1 hR.2.2.1 hl hop (by omega) (fun q q0 q1 => ?_) (fun fil' mad' st' => ?_)
              · obtain ⟨h1, h2, h3, h4⟩ := hk1 q q0 (by omega)
                have h5 := hP.2.2.1 q q0 (by omega)
                refine ⟨h1, h2, h3, h4, ?_, ?_⟩
                · rw [xs1_n xs (by omega)]; exact h5.2.2.2.2.2.2.1
                · rw [xs1_n ys (by omega)]; exact h5.2.2.2.2.2.2.2
              · rw [fS_eq (by omega) (by rw [xs1_c, xs1_n ys (by omega)]; exact hz.2)]
                refine ⟨rfl, rl_mk (ls_rc hR hl (clo_o hS) (clo_cl _) (fun j j0 j1 => rfl) (fun n _ _ => rfl))⟩
            · have h2 : (decide (xs (c - 1) = xs 0) != decide (ys (c - 1) = ys 0)) = true := by
                by_cases q1 : xs (c - 1) = xs 0
                · have q2 : ¬ ys (c - 1) = ys 0 := fun w => hz ⟨q1, w⟩
                  rw [decide_eq_true q1, decide_eq_false q2]; rfl
                · have q2 : ys (c - 1) = ys 0 := hd.resolve_left q1
                  rw [decide_eq_false q1, decide_eq_true q2]; rfl
              have key : ∃ n143, wY_fill_143 (fun r' v' => r' = jI 1 ∧ i_Rel (k + 5) (jI c, bd, wr rows (25 * l) 25 (fun j => wd (fun i => clo (fun i j => mx op (L l i j) (clo (fS (xs1 xs c (xs 0)) (xs1 ys c (ys 0)) c) i j)) i j)), drawn, passed, work', inner, crn, rfr, rto, par, cel, opn, rst) v') (jI l) (jI op) (jI c) (jI c) n143 (jI 0) lys fil mad st (upd px c.toNat (jI (xs 0))) (upd py c.toNat (jI (ys 0))) lab := by
                refine yy_f143 (xs := xs1 xs c (xs 0)) (ys := xs1 ys c (ys 0)) (m := c) hR.2.1 hR.2.2.1 hl hop (by omega) (fun q q0 q1 => ?_) (fun fil' mad' st' => ?_)
                · obtain ⟨h1, h2, h3, h4⟩ := hk1 q q0 (by omega)
                  refine ⟨h1, h2, h3, h4, ?_, ?_⟩
                  · by_cases w : q = c
                    · subst w; rw [up_s, xs1_c]
                    · rw [up_n (by omega), xs1_n xs (by omega)]; exact (hP.2.2.1 q q0 (by omega)).2.2.2.2.2.2.1
                  · by_cases w : q = c
                    · subst w; rw [up_s, xs1_c]
                    · rw [up_n (by omega), xs1_n ys (by omega)]; exact (hP.2.2.1 q q0 (by omega)).2.2.2.2.2.2.2
                · have hR' := ls_rc hR hl (clo_o hS) (clo_cl (fun i j => mx op (L l i j) (clo (fS (xs1 xs c (xs 0)) (xs1 ys c (ys 0)) c) i j))) (g := fun j => wd (fun i => clo (fun i j => mx op (L l i j) (clo (fS (xs1 xs c (xs 0)) (xs1 ys c (ys 0)) c) i j)) i j)) (fun j j0 j1 => rfl) (g' := fun n => b2 (clo (fun i j => mx op (L l i j) (clo (fS (xs1 xs c (xs 0)) (xs1 ys c (ys 0)) c) i j)) (n / 25) (n % 25))) (fun n _ _ => rfl)
                  refine ⟨rfl, rl_mk ⟨hR'.1, hR'.2.1, hR'.2.2.1, hR'.2.2.2.1, hc0, hc24, ?_, hP.2.2.2⟩⟩
                  intro q q0 q1
                  have h5 := hP.2.2.1 q q0 q1
                  refine ⟨h5.1, h5.2.1, h5.2.2.1, h5.2.2.2.1, h5.2.2.2.2.1, h5.2.2.2.2.2.1, ?_, ?_⟩
                  · rw [up_n (by omega)]; exact h5.2.2.2.2.2.2.1
                  · rw [up_n (by omega)]; exact h5.2.2.2.2.2.2.2
              by_cases q1 : xs (c - 1) = xs 0
              · have q2 : ¬ ys (c - 1) = ys 0 := fun w => hz ⟨q1, w⟩
                simp (disch := omega) only [wpY_fill, wY_fill_80, yy_lay, jl_0, jl_1, jl_2, jl_3, jl_4, jl_5, jl_6, jl_7, jl_8, jl_9, jl_12, jl_13, jl_16, jl_24, jl_25, jl_50, jl_168, jl_169, jl_624, jl_625, jl_1000, jI_add, jI_sub, jI_mul, jI_neg, jI_div, ie_mod, jI_leT, jI_leF, jI_ltT, jI_ltF, jI_eqT, jI_eqF, jI_cl, jI_inT, forall_eq, true_implies, false_implies, implies_true, not_true_eq_false, not_false_eq_true, true_and, and_true, b2_0, b2_z, e7, e8, g7, g8, yy_one2, h2, reduceCtorEq]
                exact key
              · simp (disch := omega) only [wpY_fill, wY_fill_80, yy_lay, jl_0, jl_1, jl_2, jl_3, jl_4, jl_5, jl_6, jl_7, jl_8, jl_9, jl_12, jl_13, jl_16, jl_24, jl_25, jl_50, jl_168, jl_169, jl_624, jl_625, jl_1000, jI_add, jI_sub, jI_mul, jI_neg, jI_div, ie_mod, jI_leT, jI_leF, jI_ltT, jI_ltF, jI_eqT, jI_eqF, jI_cl, jI_inT, forall_eq, true_implies, false_implies, implies_true, not_true_eq_false, not_false_eq_true, true_and, and_true, b2_0, b2_z, e7, e8, g7, g8, yy_one2, h2, reduceCtorEq]
                exact key
          by_cases q0 : ys 0 ≤ ys (c - 1)
          · by_cases q1 : xs (c - 1) = xs 0
            · simp (disch := omega) only [wpX_fill, wX_fill_77, wX_fill_99, xx_lay, jl_0, jl_1, jl_2, jl_3, jl_4, jl_5, jl_6, jl_7, jl_8, jl_9, jl_12, jl_13, jl_16, jl_24, jl_25, jl_50, jl_168, jl_169, jl_624, jl_625, jl_1000, jI_add, jI_sub, jI_mul, jI_neg, jI_div, ie_mod, jI_leT, jI_leF, jI_ltT, jI_ltF, jI_eqT, jI_eqF, jI_cl, jI_inT, forall_eq, true_implies, false_implies, implies_true, not_true_eq_false, not_false_eq_true, true_and, and_true, b2_0, b2_z, e5, e6, g5, g6]
              refine xx_pass (by omega) ?_
              exact fin _ _ (by omega) rfl
            · have q2 := hd.resolve_left q1
              simp (disch := omega) only [wpX_fill, wX_fill_77, wX_fill_99, xx_lay, jl_0, jl_1, jl_2, jl_3, jl_4, jl_5, jl_6, jl_7, jl_8, jl_9, jl_12, jl_13, jl_16, jl_24, jl_25, jl_50, jl_168, jl_169, jl_624, jl_625, jl_1000, jI_add, jI_sub, jI_mul, jI_neg, jI_div, ie_mod, jI_leT, jI_leF, jI_ltT, jI_ltF, jI_eqT, jI_eqF, jI_cl, jI_inT, forall_eq, true_implies, false_implies, implies_true, not_true_eq_false, not_false_eq_true, true_and, and_true, b2_0, b2_z, e5, e6, g5, g6]
              refine xx_pass (by omega) ?_
              exact fin _ _ (by omega) rfl
          · by_cases q1 : xs (c - 1) = xs 0
            · simp (disch := omega) only [wpX_fill, wX_fill_77, wX_fill_99, xx_lay, jl_0, jl_1, jl_2, jl_3, jl_4, jl_5, jl_6, jl_7, jl_8, jl_9, jl_12, jl_13, jl_16, jl_24, jl_25, jl_50, jl_168, jl_169, jl_624, jl_625, jl_1000, jI_add, jI_sub, jI_mul, jI_neg, jI_div, ie_mod, jI_leT, jI_leF, jI_ltT, jI_ltF, jI_eqT, jI_eqF, jI_cl, jI_inT, forall_eq, true_implies, false_implies, implies_true, not_true_eq_false, not_false_eq_true, true_and, and_true, b2_0, b2_z, e5, e6, g5, g6]
              refine xx_pass (by omega) ?_
              exact fin _ _ (by omega) rfl
            · have q2 := hd.resolve_left q1
              omega
        · have q1 : ¬ xs (c - 1) = xs 0 := fun w => hd (Or.inl w)
          have q2 : ¬ ys (c - 1) = ys 0 := fun w => hd (Or.inr w)
          have h2 : (decide (xs (c - 1) = xs 0) != decide (ys (c - 1) = ys 0)) = false := by
            rw [decide_eq_false q1, decide_eq_false q2]; rfl
          simp (disch := omega) only [wpX_fill, wpY_fill, wY_fill_80, xx_lay, yy_lay, jl_0, jl_1, jl_2, jl_3, jl_4, jl_5, jl_6, jl_7, jl_8, jl_9, jl_12, jl_13, jl_16, jl_24, jl_25, jl_50, jl_168, jl_169, jl_624, jl_625, jl_1000, jI_add, jI_sub, jI_mul, jI_neg, jI_div, ie_mod, jI_leT, jI_leF, jI_ltT, jI_ltF, jI_eqT, jI_eqF, jI_cl, jI_inT, forall_eq, true_implies, false_implies, implies_true, not_true_eq_false, not_false_eq_true, true_and, and_true, b2_0, b2_z, e5, e6, e7, e8, g5, g6, g7, g8, yy_one2, h2]
          exact rl_mk hR
    · by_cases h0 : op < 0
      · simp (disch := omega) only [wpX_fill, wpY_fill, xx_lay, yy_lay, jl_0, jl_1, jl_2, jl_3, jl_4, jl_5, jl_6, jl_7, jl_8, jl_9, jl_12, jl_13, jl_16, jl_24, jl_25, jl_50, jl_168, jl_169, jl_624, jl_625, jl_1000, jI_add, jI_sub, jI_mul, jI_neg, jI_div, ie_mod, jI_leT, jI_leF, jI_ltT, jI_ltF, jI_eqT, jI_eqF, jI_cl, jI_inT, forall_eq, true_implies, false_implies, implies_true, not_true_eq_false, not_false_eq_true, true_and, and_true, b2_0, b2_z]
        exact rl_mk hR
      · simp (disch := omega) only [wpX_fill, wpY_fill, xx_lay, yy_lay, jl_0, jl_1, jl_2, jl_3, jl_4, jl_5, jl_6, jl_7, jl_8, jl_9, jl_12, jl_13, jl_16, jl_24, jl_25, jl_50, jl_168, jl_169, jl_624, jl_625, jl_1000, jI_add, jI_sub, jI_mul, jI_neg, jI_div, ie_mod, jI_leT, jI_leF, jI_ltT, jI_ltF, jI_eqT, jI_eqF, jI_cl, jI_inT, forall_eq, true_implies, false_implies, implies_true, not_true_eq_false, not_false_eq_true, true_and, and_true, b2_0, b2_z]
        exact rl_mk hR
  · simp (disch := omega) only [wpX_fill, wpY_fill, xx_layF, yy_layF, jl_0, jl_1, jl_2, jl_3, jl_4, jl_5, jl_6, jl_7, jl_8, jl_9, jl_12, jl_13, jl_16, jl_24, jl_25, jl_50, jl_168, jl_169, jl_624, jl_625, jl_1000, jI_add, jI_sub, jI_mul, jI_neg, jI_div, ie_mod, jI_leT, jI_leF, jI_ltT, jI_ltF, jI_eqT, jI_eqF, jI_cl, jI_inT, forall_eq, true_implies, false_implies, implies_true, not_true_eq_false, not_false_eq_true, true_and, and_true, b2_0, b2_z]
    exact rl_mk hR
end
section
/-! ===== fields of two bits ===== -/
def fb (a i : Int) : Bool := if i = 0 then decide (a % 2 = 1) else if i = 1 then decide (a / 2 % 2 = 1) else false
def fw (f : Int → Int) : Int32 := wd (fun i => decide (i < 18) && fb (f (i / 2)) (i % 2))
def upf (f : Int → Int) (k x : Int) : Int → Int := fun q => if q = k then x else f q
theorem fb_w {a : Int} (h : 0 ≤ a ∧ a < 4) : jI a = wd (fun i => fb a i) := by
  have : ∀ n : Nat, n < 4 → nI n = wd (fun i => fb n i) := by decide +kernel
  obtain ⟨n, rfl⟩ := Int.eq_ofNat_of_zero_le h.1
  rw [← jI_nI]
  exact this n (by omega)
theorem fb_0 (i : Int) : fb 0 i = false := by
  unfold fb
  repeat' split
  all_goals rfl
theorem fb_big {a i : Int} (h : 2 ≤ i) : fb a i = false := by
  unfold fb
  rw [if_neg (by omega), if_neg (by omega)]
theorem fb_s {a k : Int} (h : 0 ≤ a ∧ a < 4) (hk : 0 ≤ k ∧ k ≤ 8) : jI a <<< (jI (2 * k) &&& 31) = wd (fun i => decide (2 * k ≤ i) && fb a (i - 2 * k)) := by
  rw [fb_w h, wd_shl _ (by omega)]
theorem fw_or (f : Int → Int) {m k : Int} (hm : 0 ≤ m ∧ m < 4) (hk : 0 ≤ k ∧ k ≤ 8) : fw (upf f k 0) ||| (jI m <<< (jI (2 * k) &&& 31)) = fw (upf f k m) := by
  rw [fb_s hm hk]
  unfold fw
  rw [wd_or]
  refine wd_c (fun i h0 h1 => ?_)
  unfold upf
  by_cases e : i / 2 = k
  · rw [if_pos e, if_pos e, fb_0, decide_eq_true (by omega), decide_eq_true (by omega), show i - 2 * k = i % 2 by omega]
    simp
  · rw [if_neg e, if_neg e]
    by_cases e2 : 2 * k ≤ i
    · rw [fb_big (show 2 ≤ i - 2 * k by omega)]; simp
    · rw [decide_eq_false e2]; simp
theorem fw_and (f : Int → Int) {m k : Int} (hm : 0 ≤ m ∧ m < 4) (hk : 0 ≤ k ∧ k ≤ 8) : fw (upf f k 0) &&& (jI m <<< (jI (2 * k) &&& 31)) = 0 := by
  rw [fb_s hm hk]
  unfold fw
  rw [wd_and, wd_0]
  refine wd_c (fun i h0 h1 => ?_)
  unfold upf
  by_cases e : i / 2 = k
  · rw [if_pos e, fb_0]; simp
  · rw [if_neg e]
    by_cases e2 : 2 * k ≤ i
    · rw [fb_big (show 2 ≤ i - 2 * k by omega)]; simp
    · rw [decide_eq_false e2]; simp
theorem or_add {x y : Int32} (h : x &&& y = 0) : x ||| y = x + y := by
  apply Int32.toBitVec_inj.mp
  rw [Int32.toBitVec_or, Int32.toBitVec_add]
  refine (BitVec.add_eq_or_of_and_eq_zero _ _ ?_).symm
  rw [← Int32.toBitVec_and, h]
  rfl
theorem fb_sh : ∀ a, a < 4 → ∀ k, k < 9 → nI a <<< (nI (2 * k) &&& 31) = nI (a * 4 ^ k) := by decide +kernel
theorem fw_add (f : Int → Int) {m s k : Int} (hm : 0 ≤ m ∧ m < 4) (hs : m ≤ s ∧ s < 4) (hk : 0 ≤ k ∧ k ≤ 8) (hf : f k = m) : fw f + (jI (s - m) <<< (jI (2 * k) &&& 31)) = fw (upf f k s) := by
  have e0 : upf f k m = f := by
    funext q
    unfold upf
    by_cases e : q = k
    · rw [if_pos e, e, hf]
    · rw [if_neg e]
  have e1 := fw_or f hm hk
  rw [or_add (fw_and f hm hk), e0] at e1
  have e2 := fw_or f (m := s) (by omega) hk
  rw [or_add (fw_and f (by omega) hk)] at e2
  rw [← e1, ← e2, Int32.add_assoc]
  congr 1
  obtain ⟨m', rfl⟩ := Int.eq_ofNat_of_zero_le hm.1
  obtain ⟨k', rfl⟩ := Int.eq_ofNat_of_zero_le hk.1
  obtain ⟨s', rfl⟩ := Int.eq_ofNat_of_zero_le (show 0 ≤ s by omega)
  rw [show (s' : Int) - m' = ((s' - m' : Nat) : Int) by omega, show 2 * (k' : Int) = ((2 * k' : Nat) : Int) by omega, ← jI_nI, ← jI_nI, ← jI_nI, ← jI_nI, fb_sh _ (by omega) _ (by omega), fb_sh _ (by omega) _ (by omega), fb_sh _ (by omega) _ (by omega), nI_add, ← Nat.add_mul]
  congr 2
  omega
theorem fw_get (f : Int → Int) {k : Int} (hk : 0 ≤ k ∧ k ≤ 8) (hf : 0 ≤ f k ∧ f k < 4) : (fw f >>> (jI (2 * k) &&& 31)) &&& jI 3 = jI (f k) := by
  have e3 : jI 3 = wd (fun i => decide (i < 2)) := wd_of (by decide +kernel)
  unfold fw
  rw [wd_shr _ (by omega), e3, wd_and, fb_w hf]
  refine wd_c (fun i h0 h1 => ?_)
  by_cases e : i < 2
  · rw [if_pos (by omega), decide_eq_true e, decide_eq_true (by omega), show (i + 2 * k) / 2 = k by omega, show (i + 2 * k) % 2 = i by omega]
    simp
  · rw [decide_eq_false e, fb_big (show 2 ≤ i by omega)]; simp
theorem fw_c {f g : Int → Int} (h : ∀ k : Int, 0 ≤ k → k ≤ 8 → f k = g k) : fw f = fw g := by
  unfold fw
  refine wd_c (fun i h0 h1 => ?_)
  by_cases e : i < 18
  · rw [h (i / 2) (by omega) (by omega)]
  · rw [decide_eq_false e]; rfl
theorem fw_0 : jI 196608 = fw (fun k => if k = 8 then 3 else 0) := wd_of (by decide +kernel)
/-! ===== the greatest size of a code ===== -/
def MO (P : Int → Int → Prop) (m : Int) : Prop := (∀ i j : Int, P i j → i % 2 + j % 2 + 1 ≤ m) ∧ (m = 0 ∨ ∃ i j : Int, P i j ∧ i % 2 + j % 2 + 1 = m)
theorem mo_u {P : Int → Int → Prop} {m m' : Int} (hP : ∀ i j, P i j → 0 ≤ i % 2 + j % 2) (h : MO P m) (h' : MO P m') (h0 : 0 ≤ m) (h0' : 0 ≤ m') : m = m' := by
  obtain ⟨a, b⟩ := h
  obtain ⟨a', b'⟩ := h'
  rcases b with b | ⟨i, j, hp, e⟩
  · rcases b' with b' | ⟨i', j', hp', e'⟩
    · omega
    · have := a i' j' hp'
      have := hP i' j' hp'
      omega
  · have := a' i j hp
    rcases b' with b' | ⟨i', j', hp', e'⟩
    · have := hP i j hp
      omega
    · have := a i' j' hp'
      omega
section
variable {c bd : Int32} {rows drawn passed work inner crn rfr rto par cel opn rst : Nat → Int32}
theorem xx_prt {post : Int32 → Prop} {L : Int → Int → Int → Bool} (hR : RX L rows) (hO : RO L) {l p j : Int} (h : 0 ≤ l ∧ l < 6 ∧ 0 ≤ p ∧ p ≤ 2 ∧ 0 ≤ j ∧ j < 25) : wpX_partRow post (c, bd, rows, drawn, passed, work, inner, crn, rfr, rto, par, cel, opn, rst) (jI l) (jI p) (jI j) = post (wd (fun i => decide (i < 25 ∧ pt (L l) i j = p))) := by
  by_cases h0 : p = 0
  · simp (disch := omega) only [wpX_partRow, xx_int hR hO, xx_row hR hO, jl_0, jl_1, jl_2, jl_3, jl_4, jl_5, jl_6, jl_7, jl_8, jl_9, jl_12, jl_13, jl_16, jl_24, jl_25, jl_50, jl_168, jl_169, jl_624, jl_625, jl_1000, jI_add, jI_sub, jI_mul, jI_neg, jI_div, ie_mod, jI_leT, jI_leF, jI_ltT, jI_ltF, jI_eqT, jI_eqF, jI_cl, jI_inT, forall_eq, true_implies, false_implies, implies_true, not_true_eq_false, not_false_eq_true, true_and, and_true, b2_0, b2_z]
    refine congrArg post (wd_c (fun i i0 i1 => ?_))
    refine decide_eq_decide.mpr ⟨fun z => ⟨?_, by omega⟩, fun z => by omega⟩
    apply Classical.byContradiction
    intro q
    rw [pt_2 (hO l i j (by omega))] at z
    omega
  · by_cases h1 : p = 1
    · simp (disch := omega) only [wpX_partRow, xx_int hR hO, xx_row hR hO, jl_0, jl_1, jl_2, jl_3, jl_4, jl_5, jl_6, jl_7, jl_8, jl_9, jl_12, jl_13, jl_16, jl_24, jl_25, jl_50, jl_168, jl_169, jl_624, jl_625, jl_1000, jI_add, jI_sub, jI_mul, jI_neg, jI_div, ie_mod, jI_leT, jI_leF, jI_ltT, jI_ltF, jI_eqT, jI_eqF, jI_cl, jI_inT, forall_eq, true_implies, false_implies, implies_true, not_true_eq_false, not_false_eq_true, true_and, and_true, b2_0, b2_z, wd_notJ, wd_and]
      refine congrArg post (wd_c (fun i i0 i1 => ?_))
      have hp := pt_r (L l) i j
      cases e : L l i j with
      | false =>
        rw [pt_2 e, decide_eq_false (show ¬ (i < 25 ∧ 2 = p) by omega)]; rfl
      | true =>
        have hlt := pt_lt e
        have hi : i < 25 := by
          apply Classical.byContradiction
          intro q
          rw [hO l i j (by omega)] at e
          cases e
        rw [Bool.true_and]
        by_cases z : pt (L l) i j = 0
        · rw [decide_eq_true z, decide_eq_false (by omega)]; rfl
        · rw [decide_eq_false z, decide_eq_true (by omega)]; rfl
    · simp (disch := omega) only [wpX_partRow, xx_int hR hO, xx_row hR hO, jl_0, jl_1, jl_2, jl_3, jl_4, jl_5, jl_6, jl_7, jl_8, jl_9, jl_12, jl_13, jl_16, jl_24, jl_25, jl_50, jl_168, jl_169, jl_624, jl_625, jl_1000, jI_add, jI_sub, jI_mul, jI_neg, jI_div, ie_mod, jI_leT, jI_leF, jI_ltT, jI_ltF, jI_eqT, jI_eqF, jI_cl, jI_inT, forall_eq, true_implies, false_implies, implies_true, not_true_eq_false, not_false_eq_true, true_and, and_true, b2_0, b2_z, wd_notJ, wd_mF, wd_and]
      refine congrArg post (wd_c (fun i i0 i1 => ?_))
      cases e : L l i j with
      | false =>
        rw [pt_2 e, Bool.not_false, Bool.true_and]
        exact decide_eq_decide.mpr (by omega)
      | true =>
        have := pt_lt e
        rw [decide_eq_false (show ¬ (i < 25 ∧ pt (L l) i j = p) by omega)]; rfl
theorem xx_r35 {post : Int32 → Prop} {L : Int → Int → Int → Bool} (hR : RX L rows) (hO : RO L) {J : Int32 → Int32 → Prop} {a b k : Int} {x3 : Int32} (ha : 0 ≤ a ∧ a < 6) (hb : 0 ≤ b ∧ b < 6) (hk : 0 ≤ k ∧ k < 8)
    (hJ : ∀ m : Int, 0 ≤ m → m ≤ 3 → MO (fun i j => (0 ≤ i ∧ i < 25 ∧ 0 ≤ j ∧ j < 25) ∧ 3 * pt (L a) i j + pt (L b) i j = k) m → J (x3 ||| (jI m <<< (jI (2 * k) &&& 31))) (jI (k + 1))) :
    ∃ n, wX_relate_35 post J (jI a) (jI b) x3 (jI k) c bd rows drawn passed work inner crn rfr rto par cel opn rst n (jI 0) (jI 0) := by
  refine lj_i (fun n j s => wX_relate_35 post J (jI a) (jI b) x3 (jI k) c bd rows drawn passed work inner crn rfr rto par cel opn rst n s (jI j)) (fun j s => ∃ m : Int, s = jI m ∧ 0 ≤ m ∧ m ≤ 3 ∧ MO (fun i j' => (0 ≤ i ∧ i < 25 ∧ 0 ≤ j' ∧ j' < j) ∧ 3 * pt (L a) i j' + pt (L b) i j' = k) m) 0 25 ?_ (by omega) (fun n s hI => ?_) (fun n j s h0 h1 hI ih => ?_)
  · exact ⟨0, rfl, by omega, by omega, fun i j h => by omega, Or.inl rfl⟩
  · obtain ⟨m, rfl, m0, m1, hm⟩ := hI
    simp (disch := omega) only [wX_relate_35, wX_relate_119, jl_0, jl_1, jl_2, jl_3, jl_4, jl_5, jl_6, jl_7, jl_8, jl_9, jl_12, jl_13, jl_16, jl_24, jl_25, jl_50, jl_168, jl_169, jl_624, jl_625, jl_1000, jI_add, jI_sub, jI_mul, jI_neg, jI_div, ie_mod, jI_leT, jI_leF, jI_ltT, jI_ltF, jI_eqT, jI_eqF, jI_cl, jI_inT, forall_eq, true_implies, false_implies, implies_true, not_true_eq_false, not_false_eq_true, true_and, and_true, b2_0, b2_z]
    exact hJ m m0 m1 hm
  · obtain ⟨m, rfl, m0, m1, hm⟩ := hI
    by_cases e3 : 3 ≤ m
    · simp (disch := omega) only [wX_relate_35, wX_relate_119, jl_0, jl_1, jl_2, jl_3, jl_4, jl_5, jl_6, jl_7, jl_8, jl_9, jl_12, jl_13, jl_16, jl_24, jl_25, jl_50, jl_168, jl_169, jl_624, jl_625, jl_1000, jI_add, jI_sub, jI_mul, jI_neg, jI_div, ie_mod, jI_leT, jI_leF, jI_ltT, jI_ltF, jI_eqT, jI_eqF, jI_cl, jI_inT, forall_eq, true_implies, false_implies, implies_true, not_true_eq_false, not_false_eq_true, true_and, and_true, b2_0, b2_z]
      refine hJ m m0 m1 ⟨fun i j' hp => by omega, ?_⟩
      rcases hm.2 with z | ⟨i, j', hp, e⟩
      · omega
      · exact Or.inr ⟨i, j', ⟨by omega, hp.2⟩, e⟩
    · have hbits : ∀ i : Int, (decide (i < 25 ∧ pt (L a) i j = k / 3) && decide (i < 25 ∧ pt (L b) i j = k % 3)) = true → i < 25 ∧ 3 * pt (L a) i j + pt (L b) i j = k := by
        intro i hi
        rw [Bool.and_eq_true, decide_eq_true_eq, decide_eq_true_eq] at hi
        omega
      have hbits2 : ∀ i : Int, i < 25 → 3 * pt (L a) i j + pt (L b) i j = k → (decide (i < 25 ∧ pt (L a) i j = k / 3) && decide (i < 25 ∧ pt (L b) i j = k % 3)) = true := by
        intro i hi he
        have := pt_r (L a) i j
        have := pt_r (L b) i j
        rw [Bool.and_eq_true, decide_eq_true_eq, decide_eq_true_eq]
        omega
      have step : ∀ z : Int, 0 ≤ z → z ≤ 3 → (∀ i : Int, 0 ≤ i → i < 25 → 3 * pt (L a) i j + pt (L b) i j = k → i % 2 + j % 2 + 1 ≤ z) → (z = 0 ∨ ∃ i : Int, 0 ≤ i ∧ i < 25 ∧ 3 * pt (L a) i j + pt (L b) i j = k ∧ i % 2 + j % 2 + 1 = z) →
          wX_relate_100 post J (wX_relate_35 post J (jI a) (jI b) x3 (jI k) c bd rows drawn passed work inner crn rfr rto par cel opn rst n) (jI a) (jI b) x3 (jI k) (jI m) (jI j) (jI z) c bd rows drawn passed work inner crn rfr rto par cel opn rst := by
        intro z z0 z1 hz1 hz2
        by_cases q : z ≤ m
        · simp (disch := omega) only [wX_relate_100, jl_0, jl_1, jl_2, jl_3, jl_4, jl_5, jl_6, jl_7, jl_8, jl_9, jl_12, jl_13, jl_16, jl_24, jl_25, jl_50, jl_168, jl_169, jl_624, jl_625, jl_1000, jI_add, jI_sub, jI_mul, jI_neg, jI_div, ie_mod, jI_leT, jI_leF, jI_ltT, jI_ltF, jI_eqT, jI_eqF, jI_cl, jI_inT, forall_eq, true_implies, false_implies, implies_true, not_true_eq_false, not_false_eq_true, true_and, and_true, b2_0, b2_z]
          refine ih _ ⟨m, rfl, m0, m1, fun i j' hp => ?_, ?_⟩
          · by_cases ej : j' = j
            · subst ej
              have := hz1 i (by omega) (by omega) hp.2
              omega
            · exact hm.1 i j' ⟨by omega, hp.2⟩
          · rcases hm.2 with w | ⟨i, j', hp, e⟩
            · exact Or.inl w
            · exact Or.inr ⟨i, j', ⟨by omega, hp.2⟩, e⟩
        · simp (disch := omega) only [wX_relate_100, jl_0, jl_1, jl_2, jl_3, jl_4, jl_5, jl_6, jl_7, jl_8, jl_9, jl_12, jl_13, jl_16, jl_24, jl_25, jl_50, jl_168, jl_169, jl_624, jl_625, jl_1000, jI_add, jI_sub, jI_mul, jI_neg, jI_div, ie_mod, jI_leT, jI_leF, jI_ltT, jI_ltF, jI_eqT, jI_eqF, jI_cl, jI_inT, forall_eq, true_implies, false_implies, implies_true, not_true_eq_false, not_false_eq_true, true_and, and_true, b2_0, b2_z]
          refine ih _ ⟨z, rfl, z0, z1, fun i j' hp => ?_, ?_⟩
          · by_cases ej : j' = j
            · subst ej
              exact hz1 i (by omega) (by omega) hp.2
            · have := hm.1 i j' ⟨by omega, hp.2⟩
              omega
          · rcases hz2 with w | ⟨i, i0, i1, hp, e⟩
            · exact Or.inl w
            · exact Or.inr ⟨i, j, ⟨by omega, hp⟩, e⟩
      simp (disch := omega) only [wX_relate_35, xx_prt hR hO, jl_0, jl_1, jl_2, jl_3, jl_4, jl_5, jl_6, jl_7, jl_8, jl_9, jl_12, jl_13, jl_16, jl_24, jl_25, jl_50, jl_168, jl_169, jl_624, jl_625, jl_1000, jI_add, jI_sub, jI_mul, jI_neg, jI_div, ie_mod, jI_leT, jI_leF, jI_ltT, jI_ltF, jI_eqT, jI_eqF, jI_cl, jI_inT, forall_eq, true_implies, false_implies, implies_true, not_true_eq_false, not_false_eq_true, true_and, and_true, b2_0, b2_z, wd_and, wX_relate_99, jI_a1, wd_mA]
      refine br_c (fun hz => ?_) (fun hz => br_c (fun hz2 => ?_) (fun hz2 => ?_))
      · rw [wd_eq0] at hz
        refine step 0 (by omega) (by omega) (fun i i0 i1 hp => ?_) (Or.inl rfl)
        have := hz i i0 (by omega)
        rw [hbits2 i i1 hp] at this
        cases this
      · rw [wd_ne0] at hz
        rw [wd_eq0] at hz2
        obtain ⟨i, i0, i1, hi⟩ := hz
        have hi' := hbits i hi
        have par : ∀ i : Int, 0 ≤ i → i < 25 → 3 * pt (L a) i j + pt (L b) i j = k → i % 2 = 0 := by
          intro i i0 i1 hp
          have := hz2 i i0 (by omega)
          rw [hbits2 i i1 hp, Bool.true_and] at this
          have := of_decide_eq_false this
          omega
        refine step (j % 2 + 1) (by omega) (by omega) (fun i i0 i1 hp => ?_) (Or.inr ⟨i, i0, hi'.1, hi'.2, ?_⟩)
        · have := par i i0 i1 hp
          omega
        · have := par i i0 hi'.1 hi'.2
          omega
      · rw [wd_ne0] at hz2
        obtain ⟨i, i0, i1, hi⟩ := hz2
        rw [Bool.and_eq_true, decide_eq_true_eq] at hi
        have hi' := hbits i hi.1
        refine step (j % 2 + 2) (by omega) (by omega) (fun i i0 i1 hp => by omega) (Or.inr ⟨i, i0, hi'.1, hi'.2, by omega⟩)
end
theorem i_vc_relate {k : Nat} {u : SX} {v : SY} (I : i_Rel k u v) (hk : k + 5 ≤ 2560) (v1 : Int32) (v2 : Int32) : wpX_relate (fun r => wpY_relate (fun r' => r' = r ∧ i_Rel (k + 5) u v) v v1 v2) u v1 v2 := by
  refine rl_el (P := fun u v => wpX_relate (fun r => wpY_relate (fun r' => r' = r ∧ i_Rel (k + 5) u v) v v1 v2) u v1 v2) ?_ I
  intro L c xs ys bd rows drawn passed work inner crn rfr rto par cel opn rst lys fil mad st px py lab hR
  obtain ⟨a, a1, a2, rfl⟩ := jI_ex v1
  obtain ⟨b, b1, b2', rfl⟩ := jI_ex v2
  have hI : i_Rel (k + 5) (jI c, bd, rows, drawn, passed, work, inner, crn, rfr, rto, par, cel, opn, rst) (jI c, lys, fil, mad, st, px, py, lab) := rl_mk hR
  clear I
  generalize i_Rel (k + 5) (jI c, bd, rows, drawn, passed, work, inner, crn, rfr, rto, par, cel, opn, rst) (jI c, lys, fil, mad, st, px, py, lab) = R at hI
  by_cases ha : 0 ≤ a ∧ a < 6
  · by_cases hb : 0 ≤ b ∧ b < 6
    · simp (disch := omega) only [wpX_relate, xx_lay, jl_0, jl_1, jl_2, jl_3, jl_4, jl_5, jl_6, jl_7, jl_8, jl_9, jl_12, jl_13, jl_16, jl_24, jl_25, jl_50, jl_168, jl_169, jl_624, jl_625, jl_1000, jI_add, jI_sub, jI_mul, jI_neg, jI_div, ie_mod, jI_leT, jI_leF, jI_ltT, jI_ltF, jI_eqT, jI_eqF, jI_cl, jI_inT, forall_eq, true_implies, false_implies, implies_true, not_true_eq_false, not_false_eq_true, true_and, and_true, b2_0, b2_z]
      refine lj_i (fun n q s => wX_relate_22 _ (jI a) (jI b) (jI c) bd rows drawn passed work inner crn rfr rto par cel opn rst n s (jI q)) (fun q s => ∃ f : Int → Int, s = fw f ∧ f 8 = 3 ∧ (∀ q' : Int, q ≤ q' → q' < 8 → f q' = 0) ∧ ∀ q' : Int, 0 ≤ q' → q' < q → 0 ≤ f q' ∧ f q' ≤ 3 ∧ MO (fun i j => (0 ≤ i ∧ i < 25 ∧ 0 ≤ j ∧ j < 25) ∧ 3 * pt (L a) i j + pt (L b) i j = q') (f q')) 0 8 ?_ (by omega) (fun n s hI2 => ?_) (fun n q s q0 q1 hI2 ih => ?_)
      · refine ⟨_, fw_0, if_pos rfl, fun q' _ h8 => if_neg (by omega), fun q' a b => by omega⟩
      · obtain ⟨f, rfl, f8, _, hf⟩ := hI2
        simp (disch := omega) only [wX_relate_22, jl_0, jl_1, jl_2, jl_3, jl_4, jl_5, jl_6, jl_7, jl_8, jl_9, jl_12, jl_13, jl_16, jl_24, jl_25, jl_50, jl_168, jl_169, jl_624, jl_625, jl_1000, jI_add, jI_sub, jI_mul, jI_neg, jI_div, ie_mod, jI_leT, jI_leF, jI_ltT, jI_ltF, jI_eqT, jI_eqF, jI_cl, jI_inT, forall_eq, true_implies, false_implies, implies_true, not_true_eq_false, not_false_eq_true, true_and, and_true, b2_0, b2_z]
        simp (disch := omega) only [wpY_relate, yy_lay, jl_0, jl_1, jl_2, jl_3, jl_4, jl_5, jl_6, jl_7, jl_8, jl_9, jl_12, jl_13, jl_16, jl_24, jl_25, jl_50, jl_168, jl_169, jl_624, jl_625, jl_1000, jI_add, jI_sub, jI_mul, jI_neg, jI_div, ie_mod, jI_leT, jI_leF, jI_ltT, jI_ltF, jI_eqT, jI_eqF, jI_cl, jI_inT, forall_eq, true_implies, false_implies, implies_true, not_true_eq_false, not_false_eq_true, true_and, and_true, b2_0, b2_z]
        refine lj_i (fun n q s => wY_relate_24 _ (jI a) (jI b) (jI c) lys fil mad st px py lab n s (jI q)) (fun q s => ∃ g : Int → Int, s = fw g ∧ g 8 = 3 ∧ ∀ q' : Int, 0 ≤ q' → q' < 8 → 0 ≤ g q' ∧ g q' ≤ 3 ∧ MO (fun i j => (0 ≤ i ∧ i < 25 ∧ 0 ≤ j ∧ j < 25 ∧ 25 * i + j < q) ∧ 3 * pt (L a) i j + pt (L b) i j = q') (g q')) 0 625 ?_ (by omega) (fun n s hI2 => ?_) (fun n q s q0 q1 hI2 ih => ?_)
        · refine ⟨_, fw_0, if_pos rfl, fun q' a b => ?_⟩
          show 0 ≤ (if q' = 8 then (3 : Int) else 0) ∧ (if q' = 8 then (3 : Int) else 0) ≤ 3 ∧ MO _ (if q' = 8 then (3 : Int) else 0)
          rw [if_neg (by omega)]
          exact ⟨by omega, by omega, fun i j h => by omega, Or.inl rfl⟩
        · obtain ⟨g, rfl, g8, hg⟩ := hI2
          simp (disch := omega) only [wY_relate_24, jl_0, jl_1, jl_2, jl_3, jl_4, jl_5, jl_6, jl_7, jl_8, jl_9, jl_12, jl_13, jl_16, jl_24, jl_25, jl_50, jl_168, jl_169, jl_624, jl_625, jl_1000, jI_add, jI_sub, jI_mul, jI_neg, jI_div, ie_mod, jI_leT, jI_leF, jI_ltT, jI_ltF, jI_eqT, jI_eqF, jI_cl, jI_inT, forall_eq, true_implies, false_implies, implies_true, not_true_eq_false, not_false_eq_true, true_and, and_true, b2_0, b2_z]
          refine ⟨fw_c (fun q q0 q1 => ?_), hI⟩
          by_cases e : q = 8
          · subst e; rw [f8, g8]
          · have h1 := hf q q0 (by omega)
            have h2 := hg q q0 (by omega)
            refine mo_u (P := fun i j => (0 ≤ i ∧ i < 25 ∧ 0 ≤ j ∧ j < 25) ∧ 3 * pt (L a) i j + pt (L b) i j = q) (fun i j _ => by omega) ?_ h1.2.2 h2.1 h1.1
            refine ⟨fun i j hp => h2.2.2.1 i j ⟨by omega, hp.2⟩, ?_⟩
            rcases h2.2.2.2 with w | ⟨i, j, hp, e⟩
            · exact Or.inl w
            · exact Or.inr ⟨i, j, ⟨by omega, hp.2⟩, e⟩
        · obtain ⟨g, rfl, g8, hg⟩ := hI2
          have pa := pt_r (L a) (q / 25) (q % 25)
          have pb := pt_r (L b) (q / 25) (q % 25)
          have hcode : ∀ k' : Int, k' = 3 * pt (L a) (q / 25) (q % 25) + pt (L b) (q / 25) (q % 25) → 0 ≤ g k' ∧ g k' < 4 := by
            intro k' ek
            by_cases e : k' = 8
            · rw [e, g8]; omega
            · have := hg k' (by omega) (by omega)
              omega
          have hc2 := hcode _ rfl
          simp (disch := omega) only [wY_relate_24, jl_0, jl_1, jl_2, jl_3, jl_4, jl_5, jl_6, jl_7, jl_8, jl_9, jl_12, jl_13, jl_16, jl_24, jl_25, jl_50, jl_168, jl_169, jl_624, jl_625, jl_1000, jI_add, jI_sub, jI_mul, jI_neg, jI_div, ie_mod, jI_leT, jI_leF, jI_ltT, jI_ltF, jI_eqT, jI_eqF, jI_cl, jI_inT, forall_eq, true_implies, false_implies, implies_true, not_true_eq_false, not_false_eq_true, true_and, and_true, b2_0, b2_z, yy_pt hR.2.1 hR.2.2.1, fw_get]
          generalize hk' : 3 * pt (L a) (q / 25) (q % 25) + pt (L b) (q / 25) (q % 25) = k' at *
          by_cases e : q / 25 % 2 + q % 25 % 2 + 1 ≤ g k'
          · simp (disch := omega) only [jl_0, jl_1, jl_2, jl_3, jl_4, jl_5, jl_6, jl_7, jl_8, jl_9, jl_12, jl_13, jl_16, jl_24, jl_25, jl_50, jl_168, jl_169, jl_624, jl_625, jl_1000, jI_add, jI_sub, jI_mul, jI_neg, jI_div, ie_mod, jI_leT, jI_leF, jI_ltT, jI_ltF, jI_eqT, jI_eqF, jI_cl, jI_inT, forall_eq, true_implies, false_implies, implies_true, not_true_eq_false, not_false_eq_true, true_and, and_true, b2_0, b2_z]
            refine ih _ ⟨g, rfl, g8, fun q' a b => ?_⟩
            obtain ⟨h1, h2, h3, h4⟩ := hg q' a b
            refine ⟨h1, h2, fun i j hp => ?_, ?_⟩
            · by_cases ej : 25 * i + j = q
              · have e1 : q / 25 = i := by omega
                have e2 : q % 25 = j := by omega
                rw [e1, e2] at hk' e
                rw [hk'] at hp
                rw [← hp.2]
                exact e
              · exact h3 i j ⟨by omega, hp.2⟩
            · rcases h4 with w | ⟨i, j, hp, e⟩
              · exact Or.inl w
              · exact Or.inr ⟨i, j, ⟨by omega, hp.2⟩, e⟩
          · simp (disch := omega) only [jl_0, jl_1, jl_2, jl_3, jl_4, jl_5, jl_6, jl_7, jl_8, jl_9, jl_12, jl_13, jl_16, jl_24, jl_25, jl_50, jl_168, jl_169, jl_624, jl_625, jl_1000, jI_add, jI_sub, jI_mul, jI_neg, jI_div, ie_mod, jI_leT, jI_leF, jI_ltT, jI_ltF, jI_eqT, jI_eqF, jI_cl, jI_inT, forall_eq, true_implies, false_implies, implies_true, not_true_eq_false, not_false_eq_true, true_and, and_true, b2_0, b2_z]
            have hk8 : k' < 8 := by
              apply Classical.byContradiction
              intro z
              have : k' = 8 := by omega
              rw [this, g8] at e
              omega
            rw [fw_add g hc2 (by omega) (by omega) rfl]
            refine ih _ ⟨_, rfl, ?_, fun q' a b => ?_⟩
            · unfold upf; rw [if_neg (by omega)]; exact g8
            · obtain ⟨h1, h2, h3, h4⟩ := hg q' a b
              unfold upf
              by_cases z : q' = k'
              · rw [if_pos z]
                subst z
                refine ⟨by omega, by omega, fun i j hp => ?_, Or.inr ⟨q / 25, q % 25, ⟨by omega, hk'⟩, rfl⟩⟩
                by_cases ej : 25 * i + j = q
                · have e1 : q / 25 = i := by omega
                  have e2 : q % 25 = j := by omega
                  rw [e1, e2]
                  omega
                · have := h3 i j ⟨by omega, hp.2⟩
                  omega
              · rw [if_neg z]
                refine ⟨h1, h2, fun i j hp => ?_, ?_⟩
                · by_cases ej : 25 * i + j = q
                  · have e1 : q / 25 = i := by omega
                    have e2 : q % 25 = j := by omega
                    rw [e1, e2] at hk'
                    rw [hk'] at hp
                    exact absurd hp.2.symm z
                  · exact h3 i j ⟨by omega, hp.2⟩
                · rcases h4 with w | ⟨i, j, hp, e⟩
                  · exact Or.inl w
                  · exact Or.inr ⟨i, j, ⟨by omega, hp.2⟩, e⟩
      · obtain ⟨f, rfl, f8, hz, hf⟩ := hI2
        simp (disch := omega) only [wX_relate_22, jl_0, jl_1, jl_2, jl_3, jl_4, jl_5, jl_6, jl_7, jl_8, jl_9, jl_12, jl_13, jl_16, jl_24, jl_25, jl_50, jl_168, jl_169, jl_624, jl_625, jl_1000, jI_add, jI_sub, jI_mul, jI_neg, jI_div, ie_mod, jI_leT, jI_leF, jI_ltT, jI_ltF, jI_eqT, jI_eqF, jI_cl, jI_inT, forall_eq, true_implies, false_implies, implies_true, not_true_eq_false, not_false_eq_true, true_and, and_true, b2_0, b2_z]
        refine xx_r35 hR.1 hR.2.2.1 ha hb (by omega) (fun m m0 m1 hm => ?_)
        have e0 : upf f q 0 = f := by
          funext x
          unfold upf
          by_cases e : x = q
          · rw [if_pos e, e, hz q (by omega) q1]
          · rw [if_neg e]
        have := fw_or f (m := m) (k := q) (by omega) (by omega)
        rw [e0] at this
        rw [this]
        refine ih _ ⟨_, rfl, ?_, fun q' a b => ?_, fun q' a b => ?_⟩
        · unfold upf; rw [if_neg (by omega)]; exact f8
        · unfold upf; rw [if_neg (by omega)]; exact hz q' (by omega) b
        · unfold upf
          by_cases z : q' = q
          · rw [if_pos z]
            subst z
            exact ⟨m0, m1, hm⟩
          · rw [if_neg z]
            exact hf q' a (by omega)
    · simp (disch := omega) only [wpX_relate, wpY_relate, xx_lay, xx_layF, yy_lay, yy_layF, jl_0, jl_1, jl_2, jl_3, jl_4, jl_5, jl_6, jl_7, jl_8, jl_9, jl_12, jl_13, jl_16, jl_24, jl_25, jl_50, jl_168, jl_169, jl_624, jl_625, jl_1000, jI_add, jI_sub, jI_mul, jI_neg, jI_div, ie_mod, jI_leT, jI_leF, jI_ltT, jI_ltF, jI_eqT, jI_eqF, jI_cl, jI_inT, forall_eq, true_implies, false_implies, implies_true, not_true_eq_false, not_false_eq_true, true_and, and_true, b2_0, b2_z]
      exact hI
  · simp (disch := omega) only [wpX_relate, wpY_relate, xx_layF, yy_layF, jl_0, jl_1, jl_2, jl_3, jl_4, jl_5, jl_6, jl_7, jl_8, jl_9, jl_12, jl_13, jl_16, jl_24, jl_25, jl_50, jl_168, jl_169, jl_624, jl_625, jl_1000, jI_add, jI_sub, jI_mul, jI_neg, jI_div, ie_mod, jI_leT, jI_leF, jI_ltT, jI_ltF, jI_eqT, jI_eqF, jI_cl, jI_inT, forall_eq, true_implies, false_implies, implies_true, not_true_eq_false, not_false_eq_true, true_and, and_true, b2_0, b2_z]
    exact hI
end
section
/-! ===== counting bits ===== -/
theorem lst_i {F : Int → Bool} : ∀ (d : Nat) (i : Int), i.toNat = d → 0 ≤ i → F i = true → ∃ k : Int, 0 ≤ k ∧ k ≤ i ∧ F k = true ∧ ∀ q : Int, 0 ≤ q → q < k → F q = false := by
  intro d
  induction d using Nat.strongRecOn with
  | ind d ih =>
    intro i hd h0 hF
    by_cases h : ∃ q : Int, 0 ≤ q ∧ q < i ∧ F q = true
    · obtain ⟨q, q0, q1, hq⟩ := h
      obtain ⟨k, k0, k1, hk, hl⟩ := ih q.toNat (by omega) q rfl q0 hq
      exact ⟨k, k0, by omega, hk, hl⟩
    · refine ⟨i, h0, by omega, hF, fun q q0 q1 => ?_⟩
      cases e : F q with
      | false => rfl
      | true => exact absurd ⟨q, q0, q1, e⟩ h
theorem wd_m1 : ∀ k : Nat, k < 32 → wd (fun i => decide (i < (k : Int))) + 1 = wd (fun i => decide (i = (k : Int))) := by decide +kernel
theorem wd_low {F : Int → Bool} {k : Int} (h0 : 0 ≤ k) (h1 : k < 32) (hk : F k = true) (hl : ∀ q : Int, 0 ≤ q → q < k → F q = false) : wd F &&& (wd F - jI 1) = wd (fun i => F i && !decide (i = k)) := by
  have e1 : wd (fun i => F i && !decide (i = k)) &&& wd (fun i => decide (i = k)) = 0 := by
    rw [wd_and, wd_0]
    refine wd_c (fun i _ _ => ?_)
    cases F i <;> cases decide (i = k) <;> rfl
  have e2 : wd (fun i => F i && !decide (i = k)) ||| wd (fun i => decide (i = k)) = wd F := by
    rw [wd_or]
    refine wd_c (fun i _ _ => ?_)
    by_cases z : i = k
    · subst z; rw [hk, decide_eq_true rfl]; rfl
    · rw [decide_eq_false z]; simp
  have e3 : wd (fun i => decide (i < k)) + 1 = wd (fun i => decide (i = k)) := by
    obtain ⟨n, rfl⟩ := Int.eq_ofNat_of_zero_le h0
    exact wd_m1 n (by omega)
  have e4 : wd (fun i => F i && !decide (i = k)) &&& wd (fun i => decide (i < k)) = 0 := by
    rw [wd_and, wd_0]
    refine wd_c (fun i i0 _ => ?_)
    by_cases z : i < k
    · rw [hl i i0 z]; rfl
    · rw [decide_eq_false z]; simp
  have e5 : wd F - jI 1 = wd (fun i => F i && !decide (i = k)) ||| wd (fun i => decide (i < k)) := by
    rw [or_add e4, ← e2, or_add e1, ← e3, ← Int32.add_assoc]
    exact Int32.add_sub_cancel _ _
  rw [e5, wd_or, wd_and]
  refine wd_c (fun i i0 _ => ?_)
  by_cases z : i < k
  · rw [hl i i0 z]; rfl
  · rw [decide_eq_false z]; cases F i <;> cases decide (i = k) <;> rfl
theorem cn_z {F : Int → Bool} {n : Nat} (h : cn F n = 0) : ∀ i : Int, 0 ≤ i → i < n → F i = false := by
  intro i h0 h1
  cases e : F i with
  | false => rfl
  | true => have := cn_pos h0 h1 e; omega
theorem xx_cnt4 {post : Int32 → Prop} : ∀ (d : Nat) (F : Int → Bool) (x : Int), cn F 32 = d → post (jI (x + d)) → wX_count_4 post (d + 1) (jI x) (wd F) := by
  intro d
  induction d with
  | zero =>
    intro F x hF hp
    have : wd F = jI 0 := (wd_eq0 F).mpr (fun i h0 h1 => cn_z hF i h0 (by omega))
    simp only [wX_count_4, jl_0]
    refine br_t this ?_
    rw [show x + ((0 : Nat) : Int) = x by omega] at hp
    exact hp
  | succ d ih =>
    intro F x hF hp
    have hne : ∃ i : Int, 0 ≤ i ∧ i < 32 ∧ F i = true := by
      apply Classical.byContradiction
      intro hn
      have : cn F 32 = 0 := cn_0 32 (fun i h0 h1 => by
        cases e : F i with
        | false => rfl
        | true => exact absurd ⟨i, h0, by omega, e⟩ hn)
      omega
    obtain ⟨i, i0, i1, hi⟩ := hne
    obtain ⟨k, k0, k1, hk, hl⟩ := lst_i i.toNat i rfl i0 hi
    have hz : ¬ wd F = jI 0 := (wd_ne0 F).mpr ⟨i, i0, i1, hi⟩
    rw [wX_count_4]
    simp only [jl_0, jl_1, forall_eq, wd_low k0 (show k < 32 by omega) hk hl, jI_add]
    refine br_f hz ?_
    refine ih _ _ ?_ ?_
    · have := cn_rm F 32 k0 (by omega) hk
      omega
    · rw [show x + 1 + (d : Int) = x + ((d + 1 : Nat) : Int) by omega]
      exact hp
theorem xx_cnt {post : Int32 → Prop} {F : Int → Bool} (hp : post (jI (cn F 32))) : wpX_count post (wd F) := by
  have := cn_nn F 32
  refine ⟨(cn F 32).toNat + 1, xx_cnt4 (cn F 32).toNat F 0 (by omega) ?_⟩
  rw [show (0 : Int) + ((cn F 32).toNat : Int) = cn F 32 by omega]
  exact hp
/-! ===== what is measured ===== -/
def Pm (A : Int → Int → Bool) (w i j : Int) : Bool :=
  if w = 0 then decide (i % 2 + j % 2 = 2 ∧ pt A i j = 0) else if w = 1 then decide (i % 2 + j % 2 = 1 ∧ pt A i j = 0 ∧ ca A i j = 0)
  else if w = 2 then decide (i % 2 + j % 2 = 1 ∧ pt A i j = 1) else decide (i % 2 + j % 2 = 0 ∧ pt A i j = 1)
theorem pm_o {A : Int → Int → Bool} (hO : SO A) (w : Int) {i j : Int} (h : ¬ (0 ≤ i ∧ i < 25 ∧ 0 ≤ j ∧ j < 25)) : Pm A w i j = false := by
  have e := pt_2 (hO i j h)
  unfold Pm
  repeat' split
  all_goals exact decide_eq_false (by omega)
theorem pm_sum {A : Int → Int → Bool} (hO : SO A) (w : Int) : sm (fun j => cn (fun i => Pm A w i j) 32) 25 = cn (fun n => Pm A w (n / 25) (n % 25)) 625 := by
  have e1 : sm (fun j => cn (fun i => Pm A w i j) 32) 25 = sm (fun j => sm (fun i => o1 (Pm A w i j)) 25) 25 := sm_c 25 (fun j _ _ => by
    show cn (fun i => Pm A w i j) (25 + 7) = _
    rw [cn_ext 7 (fun i hi => pm_o hO w (by omega))]
    rfl)
  rw [e1, ← sm_x (fun i j => o1 (Pm A w i j)) 25 25]
  exact (sm_25 (fun i j => o1 (Pm A w i j)) 25).symm
section
variable {c bd : Int32} {rows drawn passed work inner crn rfr rto par cel opn rst : Nat → Int32}
theorem xx_bes {post : Int32 → Prop} {L : Int → Int → Int → Bool} (hR : RX L rows) (hO : RO L) {l j : Int} (h : 0 ≤ l ∧ l < 6 ∧ 0 ≤ j ∧ j < 25) : wpX_beside post (c, bd, rows, drawn, passed, work, inner, crn, rfr, rto, par, cel, opn, rst) (jI l) (jI j) = post (wd (fun i => if j % 2 = 0 then (L l i (j - 1) || L l i (j + 1)) && decide (i % 2 = 1 ∧ i < 24) else (decide (i % 2 = 0) && (L l (i - 1) j || L l (i + 1) j)))) := by
  by_cases h1 : j % 2 = 0
  · simp (disch := omega) only [wpX_beside, jl_0, jl_1, jl_2, jl_3, jl_4, jl_5, jl_6, jl_7, jl_8, jl_9, jl_12, jl_13, jl_16, jl_24, jl_25, jl_50, jl_168, jl_169, jl_624, jl_625, jl_1000, jI_add, jI_sub, jI_mul, jI_neg, jI_div, ie_mod, jI_leT, jI_leF, jI_ltT, jI_ltF, jI_eqT, jI_eqF, jI_cl, jI_inT, forall_eq, true_implies, false_implies, implies_true, not_true_eq_false, not_false_eq_true, true_and, and_true, b2_0, b2_z, jI_a1, xx_row hR hO, wd_or, wd_mA, wd_and, if_pos]
  · simp (disch := omega) only [wpX_beside, jl_0, jl_1, jl_2, jl_3, jl_4, jl_5, jl_6, jl_7, jl_8, jl_9, jl_12, jl_13, jl_16, jl_24, jl_25, jl_50, jl_168, jl_169, jl_624, jl_625, jl_1000, jI_add, jI_sub, jI_mul, jI_neg, jI_div, ie_mod, jI_leT, jI_leF, jI_ltT, jI_ltF, jI_eqT, jI_eqF, jI_cl, jI_inT, forall_eq, true_implies, false_implies, implies_true, not_true_eq_false, not_false_eq_true, true_and, and_true, b2_0, b2_z, jI_a1, xx_row hR hO, wd_and, wd_or, wd_xor, wd_notJ, wd_shl, wd_shr, wd_ushr, wd_one, wd_mA, wd_m5, wd_mF]
    refine congrArg post (wd_c (fun i i0 i1 => ?_))
    rw [if_neg h1]
    by_cases hi : i % 2 = 0
    · by_cases h25 : i < 25
      · simp (disch := omega) only [if_pos, dc_T (p := i % 2 = 0), Bool.true_and]
        rw [sg_m hO (by omega), sg_m hO (by omega), sg_l hO]
      · rw [hO l (i - 1) j (by omega), hO l (i + 1) j (by omega), hO l 31 j (by omega)]
        simp
    · have d1 : decide ((i - 1) % 2 = 1 ∧ i - 1 < 24) = false := decide_eq_false (by omega)
      rw [d1, decide_eq_false hi]
      by_cases h31 : i + 1 < 32
      · rw [if_pos h31, decide_eq_false (show ¬ ((i + 1) % 2 = 1 ∧ i + 1 < 24) by omega)]; simp
      · rw [if_neg h31, hO l 31 j (by omega)]; simp
theorem xx_m61 {post : Int32 → SX → Prop} {L : Int → Int → Int → Bool} (hR : RX L rows) (hO : RO L) {l w : Int} (hl : 0 ≤ l ∧ l < 6) (hw : 0 ≤ w ∧ w ≤ 3) (hp : post (jI (sm (fun j => cn (fun i => Pm (L l) w i j) 32) 25)) (c, bd, rows, drawn, passed, work, inner, crn, rfr, rto, par, cel, opn, rst)) : ∃ n, wX_measure_61 post (jI l) (jI w) c bd rows drawn passed work inner crn rfr rto par cel opn rst n (jI 0) (jI 0) := by
  refine lj_a (fun n j s => wX_measure_61 post (jI l) (jI w) c bd rows drawn passed work inner crn rfr rto par cel opn rst n s (jI j)) (fun j => jI (sm (fun j => cn (fun i => Pm (L l) w i j) 32) j.toNat)) 0 25 rfl (by omega) (fun n => ?_) (fun n j h0 h1 ih => ?_)
  · simp (disch := omega) only [wX_measure_61, jl_0, jl_1, jl_2, jl_3, jl_4, jl_5, jl_6, jl_7, jl_8, jl_9, jl_12, jl_13, jl_16, jl_24, jl_25, jl_50, jl_168, jl_169, jl_624, jl_625, jl_1000, jI_add, jI_sub, jI_mul, jI_neg, jI_div, ie_mod, jI_leT, jI_leF, jI_ltT, jI_ltF, jI_eqT, jI_eqF, jI_cl, jI_inT, forall_eq, true_implies, false_implies, implies_true, not_true_eq_false, not_false_eq_true, true_and, and_true, b2_0, b2_z]; exact hp
  · have es : sm (fun j => cn (fun i => Pm (L l) w i j) 32) (j + 1).toNat = sm (fun j => cn (fun i => Pm (L l) w i j) 32) j.toNat + cn (fun i => Pm (L l) w i j) 32 := by
      rw [show (j + 1).toNat = j.toNat + 1 by omega]
      show sm (fun j => cn (fun i => Pm (L l) w i j) 32) j.toNat + cn (fun i => Pm (L l) w i ((j.toNat : Nat) : Int)) 32 = _
      rw [show ((j.toNat : Nat) : Int) = j by omega]
    rw [es] at ih
    generalize sm (fun j => cn (fun i => Pm (L l) w i j) 32) j.toNat = s at *
    have hL : ∀ i : Int, L l i j = true → 0 ≤ i ∧ i < 25 := fun i hi => by
      apply Classical.byContradiction
      intro q
      rw [hO l i j (by omega)] at hi
      cases hi
    by_cases hw0 : w = 0
    · by_cases hj : j % 2 = 1
      · simp (disch := omega) only [wX_measure_61, wX_measure_83, xx_int hR hO, xx_row hR hO, jl_0, jl_1, jl_2, jl_3, jl_4, jl_5, jl_6, jl_7, jl_8, jl_9, jl_12, jl_13, jl_16, jl_24, jl_25, jl_50, jl_168, jl_169, jl_624, jl_625, jl_1000, jI_add, jI_sub, jI_mul, jI_neg, jI_div, ie_mod, jI_leT, jI_leF, jI_ltT, jI_ltF, jI_eqT, jI_eqF, jI_cl, jI_inT, forall_eq, true_implies, false_implies, implies_true, not_true_eq_false, not_false_eq_true, true_and, and_true, b2_0, b2_z, jI_a1, wd_mA, wd_m5, wd_and]
        refine xx_cnt ?_
        simp only [jI_mul, jI_add]
        refine Eq.mp ?_ ih
        congr 3
        rw [hj, Int.one_mul]
        refine cn_c 32 (fun i i0 i1 => ?_)
        unfold Pm
        rw [if_pos hw0]
        cases e : L l i j with
        | false => rw [pt_2 e, decide_eq_false (by omega)]; rfl
        | true =>
          have := hL i e
          rw [Bool.true_and]
          refine decide_eq_decide.mpr ⟨fun z => ⟨by omega, by omega⟩, fun z => ⟨by omega, ?_⟩⟩
          unfold pt
          rw [e, if_neg (by decide), if_pos (by omega)]
      · simp (disch := omega) only [wX_measure_61, wX_measure_83, xx_int hR hO, xx_row hR hO, jl_0, jl_1, jl_2, jl_3, jl_4, jl_5, jl_6, jl_7, jl_8, jl_9, jl_12, jl_13, jl_16, jl_24, jl_25, jl_50, jl_168, jl_169, jl_624, jl_625, jl_1000, jI_add, jI_sub, jI_mul, jI_neg, jI_div, ie_mod, jI_leT, jI_leF, jI_ltT, jI_ltF, jI_eqT, jI_eqF, jI_cl, jI_inT, forall_eq, true_implies, false_implies, implies_true, not_true_eq_false, not_false_eq_true, true_and, and_true, b2_0, b2_z, jI_a1, wd_mA, wd_m5, wd_and]
        refine xx_cnt ?_
        simp only [jI_mul, jI_add]
        refine Eq.mp ?_ ih
        congr 3
        rw [show j % 2 = 0 by omega, Int.zero_mul]
        refine cn_0 32 (fun i i0 i1 => ?_)
        unfold Pm
        rw [if_pos hw0]
        exact decide_eq_false (by omega)
    · by_cases hw1 : w = 1
      · have key : ∀ (F : Int → Bool), (∀ i : Int, 0 ≤ i → i < 32 → F i = Pm (L l) w i j) → wpX_count (fun r => wX_measure_61 post (jI l) (jI w) c bd rows drawn passed work inner crn rfr rto par cel opn rst n (jI s + r) (jI (j + 1))) (wd F) := by
          intro F hF
          refine xx_cnt ?_
          rw [jI_add, cn_c 32 (fun i i0 i1 => hF i i0 (by omega))]
          exact ih
        by_cases hj : j % 2 = 1
        · simp (disch := omega) only [wX_measure_61, wX_measure_83, xx_int hR hO, xx_row hR hO, xx_bes hR hO, jl_0, jl_1, jl_2, jl_3, jl_4, jl_5, jl_6, jl_7, jl_8, jl_9, jl_12, jl_13, jl_16, jl_24, jl_25, jl_50, jl_168, jl_169, jl_624, jl_625, jl_1000, jI_add, jI_sub, jI_mul, jI_neg, jI_div, ie_mod, jI_leT, jI_leF, jI_ltT, jI_ltF, jI_eqT, jI_eqF, jI_cl, jI_inT, forall_eq, true_implies, false_implies, implies_true, not_true_eq_false, not_false_eq_true, true_and, and_true, b2_0, b2_z, wd_mA, wd_m5, wd_and, wd_notJ, jI_a1]
          refine key _ (fun i i0 i1 => ?_)
          unfold Pm
          rw [if_neg hw0, if_pos hw1, if_neg (by omega)]
          by_cases hi : i % 2 = 0 ∧ i < 25
          · have ec : ca (L l) i j = o1 (L l (i - 1) j) + o1 (L l (i + 1) j) := by
              unfold ca
              rw [if_neg (by omega), if_pos hj]
            rw [ec, decide_eq_true hi, decide_eq_true hi.1, Bool.and_true, Bool.true_and]
            by_cases hp0 : pt (L l) i j = 0
            · rw [decide_eq_true hp0, Bool.true_and]
              cases L l (i - 1) j <;> cases L l (i + 1) j <;> simp [o1] <;> omega
            · rw [decide_eq_false hp0, decide_eq_false (by omega)]; rfl
          · rw [decide_eq_false hi, Bool.and_false, Bool.false_and]
            refine (decide_eq_false ?_).symm
            rintro ⟨q1, q2, q3⟩
            have : i < 25 := by
              apply Classical.byContradiction
              intro q
              rw [pt_2 (hO l i j (by omega))] at q2
              omega
            omega
        · simp (disch := omega) only [wX_measure_61, wX_measure_83, xx_int hR hO, xx_row hR hO, xx_bes hR hO, jl_0, jl_1, jl_2, jl_3, jl_4, jl_5, jl_6, jl_7, jl_8, jl_9, jl_12, jl_13, jl_16, jl_24, jl_25, jl_50, jl_168, jl_169, jl_624, jl_625, jl_1000, jI_add, jI_sub, jI_mul, jI_neg, jI_div, ie_mod, jI_leT, jI_leF, jI_ltT, jI_ltF, jI_eqT, jI_eqF, jI_cl, jI_inT, forall_eq, true_implies, false_implies, implies_true, not_true_eq_false, not_false_eq_true, true_and, and_true, b2_0, b2_z, wd_mA, wd_m5, wd_and, wd_notJ, jI_a1]
          refine key _ (fun i i0 i1 => ?_)
          unfold Pm
          rw [if_neg hw0, if_pos hw1, if_pos (by omega)]
          by_cases hi : i % 2 = 1 ∧ i < 24
          · have ec : ca (L l) i j = o1 (L l i (j - 1)) + o1 (L l i (j + 1)) := by
              unfold ca
              rw [if_pos hi.1]
            rw [ec, decide_eq_true hi, Bool.and_true, Bool.and_true]
            by_cases hp0 : pt (L l) i j = 0
            · rw [decide_eq_true hp0, Bool.true_and]
              cases L l i (j - 1) <;> cases L l i (j + 1) <;> simp [o1] <;> omega
            · rw [decide_eq_false hp0, decide_eq_false (by omega)]; rfl
          · rw [decide_eq_false hi, Bool.and_false, Bool.false_and]
            refine (decide_eq_false ?_).symm
            rintro ⟨q1, q2, q3⟩
            have : i < 25 := by
              apply Classical.byContradiction
              intro q
              rw [pt_2 (hO l i j (by omega))] at q2
              omega
            omega
      · have hpt : ∀ i : Int, (L l i j && !decide (pt (L l) i j = 0)) = decide (pt (L l) i j = 1) := by
          intro i
          have hr := pt_r (L l) i j
          cases e : L l i j with
          | false => rw [pt_2 e]; rfl
          | true =>
            have := pt_lt e
            rw [Bool.true_and]
            by_cases z : pt (L l) i j = 0
            · rw [decide_eq_true z, decide_eq_false (by omega)]; rfl
            · rw [decide_eq_false z, decide_eq_true (by omega)]; rfl
        have h25 : ∀ i : Int, pt (L l) i j = 1 → i < 25 := by
          intro i hi
          apply Classical.byContradiction
          intro q
          rw [pt_2 (hO l i j (by omega))] at hi
          omega
        by_cases hw2 : w = 2
        · have key : ∀ (F : Int → Bool), (∀ i : Int, 0 ≤ i → i < 32 → F i = Pm (L l) w i j) → wpX_count (fun r => wX_measure_61 post (jI l) (jI w) c bd rows drawn passed work inner crn rfr rto par cel opn rst n (jI s + r) (jI (j + 1))) (wd F) := by
            intro F hF
            refine xx_cnt ?_
            rw [jI_add, cn_c 32 (fun i i0 i1 => hF i i0 (by omega))]
            exact ih
          by_cases hj : j % 2 = 1
          · simp (disch := omega) only [wX_measure_61, wX_measure_83, xx_int hR hO, xx_row hR hO, jl_0, jl_1, jl_2, jl_3, jl_4, jl_5, jl_6, jl_7, jl_8, jl_9, jl_12, jl_13, jl_16, jl_24, jl_25, jl_50, jl_168, jl_169, jl_624, jl_625, jl_1000, jI_add, jI_sub, jI_mul, jI_neg, jI_div, ie_mod, jI_leT, jI_leF, jI_ltT, jI_ltF, jI_eqT, jI_eqF, jI_cl, jI_inT, forall_eq, true_implies, false_implies, implies_true, not_true_eq_false, not_false_eq_true, true_and, and_true, b2_0, b2_z, wd_mA, wd_m5, wd_and, wd_notJ, jI_a1]
            refine key _ (fun i i0 i1 => ?_)
            unfold Pm
            rw [if_neg hw0, if_neg hw1, if_pos hw2, hpt i, ← Bool.decide_and]
            refine decide_eq_decide.mpr ⟨fun z => by omega, fun z => ?_⟩
            have := h25 i z.2
            omega
          · simp (disch := omega) only [wX_measure_61, wX_measure_83, xx_int hR hO, xx_row hR hO, jl_0, jl_1, jl_2, jl_3, jl_4, jl_5, jl_6, jl_7, jl_8, jl_9, jl_12, jl_13, jl_16, jl_24, jl_25, jl_50, jl_168, jl_169, jl_624, jl_625, jl_1000, jI_add, jI_sub, jI_mul, jI_neg, jI_div, ie_mod, jI_leT, jI_leF, jI_ltT, jI_ltF, jI_eqT, jI_eqF, jI_cl, jI_inT, forall_eq, true_implies, false_implies, implies_true, not_true_eq_false, not_false_eq_true, true_and, and_true, b2_0, b2_z, wd_mA, wd_m5, wd_and, wd_notJ, jI_a1]
            refine key _ (fun i i0 i1 => ?_)
            unfold Pm
            rw [if_neg hw0, if_neg hw1, if_pos hw2, hpt i, ← Bool.decide_and]
            refine decide_eq_decide.mpr ⟨fun z => by omega, fun z => ?_⟩
            have := h25 i z.2
            omega
        · by_cases hj : j % 2 = 1
          · simp (disch := omega) only [wX_measure_61, wX_measure_83, xx_int hR hO, xx_row hR hO, jl_0, jl_1, jl_2, jl_3, jl_4, jl_5, jl_6, jl_7, jl_8, jl_9, jl_12, jl_13, jl_16, jl_24, jl_25, jl_50, jl_168, jl_169, jl_624, jl_625, jl_1000, jI_add, jI_sub, jI_mul, jI_neg, jI_div, ie_mod, jI_leT, jI_leF, jI_ltT, jI_ltF, jI_eqT, jI_eqF, jI_cl, jI_inT, forall_eq, true_implies, false_implies, implies_true, not_true_eq_false, not_false_eq_true, true_and, and_true, b2_0, b2_z, wd_mA, wd_m5, wd_and, wd_notJ, jI_a1]
            refine xx_cnt ?_
            simp only [jI_mul, jI_add]
            refine Eq.mp ?_ ih
            congr 3
            rw [show 1 - j % 2 = 0 by omega, Int.zero_mul]
            refine cn_0 32 (fun i i0 i1 => ?_)
            unfold Pm
            rw [if_neg hw0, if_neg hw1, if_neg hw2]
            exact decide_eq_false (by omega)
          · simp (disch := omega) only [wX_measure_61, wX_measure_83, xx_int hR hO, xx_row hR hO, jl_0, jl_1, jl_2, jl_3, jl_4, jl_5, jl_6, jl_7, jl_8, jl_9, jl_12, jl_13, jl_16, jl_24, jl_25, jl_50, jl_168, jl_169, jl_624, jl_625, jl_1000, jI_add, jI_sub, jI_mul, jI_neg, jI_div, ie_mod, jI_leT, jI_leF, jI_ltT, jI_ltF, jI_eqT, jI_eqF, jI_cl, jI_inT, forall_eq, true_implies, false_implies, implies_true, not_true_eq_false, not_false_eq_true, true_and, and_true, b2_0, b2_z, wd_mA, wd_m5, wd_and, wd_notJ, jI_a1]
            refine xx_cnt ?_
            simp only [jI_mul, jI_add]
            refine Eq.mp ?_ ih
            congr 3
            rw [show 1 - j % 2 = 1 by omega, Int.one_mul]
            refine cn_c 32 (fun i i0 i1 => ?_)
            unfold Pm
            rw [if_neg hw0, if_neg hw1, if_neg hw2, hpt i, ← Bool.decide_and]
            refine decide_eq_decide.mpr ⟨fun z => ?_, fun z => by omega⟩
            have := h25 i z.2
            omega
end
section
variable {cy : Int32} {lys fil mad st px py lab : Nat → Int32}
theorem yy_m77 {post : Int32 → SY → Prop} {L : Int → Int → Int → Bool} (hY : RY L lys) (hO : RO L) {l w : Int} (hl : 0 ≤ l ∧ l < 6) (hw : 0 ≤ w ∧ w ≤ 3) (hp : post (jI (cn (fun n => Pm (L l) w (n / 25) (n % 25)) 625)) (cy, lys, fil, mad, st, px, py, lab)) : ∃ n, wY_measure_77 post (jI l) (jI w) cy lys fil mad st px py lab n (jI 0) (jI 0) := by
  refine lj_a (fun n j s => wY_measure_77 post (jI l) (jI w) cy lys fil mad st px py lab n s (jI j)) (fun j => jI (cn (fun n => Pm (L l) w (n / 25) (n % 25)) j.toNat)) 0 625 rfl (by omega) (fun n => ?_) (fun n q h0 h1 ih => ?_)
  · simp (disch := omega) only [wY_measure_77, jl_0, jl_1, jl_2, jl_3, jl_4, jl_5, jl_6, jl_7, jl_8, jl_9, jl_12, jl_13, jl_16, jl_24, jl_25, jl_50, jl_168, jl_169, jl_624, jl_625, jl_1000, jI_add, jI_sub, jI_mul, jI_neg, jI_div, ie_mod, jI_leT, jI_leF, jI_ltT, jI_ltF, jI_eqT, jI_eqF, jI_cl, jI_inT, forall_eq, true_implies, false_implies, implies_true, not_true_eq_false, not_false_eq_true, true_and, and_true, b2_0, b2_z]; exact hp
  · rw [cn_s2 _ h0] at ih
    have hpt := pt_r (L l) (q / 25) (q % 25)
    have hca := ca_r (L l) (q / 25) (q % 25)
    have ihT : Pm (L l) w (q / 25) (q % 25) = true → wY_measure_77 post (jI l) (jI w) cy lys fil mad st px py lab n (jI (cn (fun n => Pm (L l) w (n / 25) (n % 25)) q.toNat + 1)) (jI (q + 1)) := fun e => by rw [e] at ih; exact ih
    have ihF : Pm (L l) w (q / 25) (q % 25) = false → wY_measure_77 post (jI l) (jI w) cy lys fil mad st px py lab n (jI (cn (fun n => Pm (L l) w (n / 25) (n % 25)) q.toNat)) (jI (q + 1)) := fun e => by
      rw [e, show o1 false = 0 from rfl, Int.add_zero] at ih; exact ih
    clear ih
    generalize cn (fun n => Pm (L l) w (n / 25) (n % 25)) q.toNat = s at *
    unfold Pm at ihT ihF
    by_cases hw0 : w = 0
    · rw [if_pos hw0] at ihT ihF
      by_cases d2 : q / 25 % 2 + q % 25 % 2 = 2
      · by_cases p0 : pt (L l) (q / 25) (q % 25) = 0
        · simp (disch := omega) only [wY_measure_77, wY_measure_139, wY_measure_170, wY_measure_190, jl_0, jl_1, jl_2, jl_3, jl_4, jl_5, jl_6, jl_7, jl_8, jl_9, jl_12, jl_13, jl_16, jl_24, jl_25, jl_50, jl_168, jl_169, jl_624, jl_625, jl_1000, jI_add, jI_sub, jI_mul, jI_neg, jI_div, ie_mod, jI_leT, jI_leF, jI_ltT, jI_ltF, jI_eqT, jI_eqF, jI_cl, jI_inT, forall_eq, true_implies, false_implies, implies_true, not_true_eq_false, not_false_eq_true, true_and, and_true, b2_0, b2_z, yy_pt hY hO]
          exact ihT (decide_eq_true ⟨d2, p0⟩)
        · simp (disch := omega) only [wY_measure_77, wY_measure_139, wY_measure_170, wY_measure_190, jl_0, jl_1, jl_2, jl_3, jl_4, jl_5, jl_6, jl_7, jl_8, jl_9, jl_12, jl_13, jl_16, jl_24, jl_25, jl_50, jl_168, jl_169, jl_624, jl_625, jl_1000, jI_add, jI_sub, jI_mul, jI_neg, jI_div, ie_mod, jI_leT, jI_leF, jI_ltT, jI_ltF, jI_eqT, jI_eqF, jI_cl, jI_inT, forall_eq, true_implies, false_implies, implies_true, not_true_eq_false, not_false_eq_true, true_and, and_true, b2_0, b2_z, yy_pt hY hO]
          exact ihF (decide_eq_false (fun z => p0 z.2))
      · simp (disch := omega) only [wY_measure_77, wY_measure_139, wY_measure_170, wY_measure_190, jl_0, jl_1, jl_2, jl_3, jl_4, jl_5, jl_6, jl_7, jl_8, jl_9, jl_12, jl_13, jl_16, jl_24, jl_25, jl_50, jl_168, jl_169, jl_624, jl_625, jl_1000, jI_add, jI_sub, jI_mul, jI_neg, jI_div, ie_mod, jI_leT, jI_leF, jI_ltT, jI_ltF, jI_eqT, jI_eqF, jI_cl, jI_inT, forall_eq, true_implies, false_implies, implies_true, not_true_eq_false, not_false_eq_true, true_and, and_true, b2_0, b2_z, yy_pt hY hO]
        exact ihF (decide_eq_false (fun z => d2 z.1))
    · rw [if_neg hw0] at ihT ihF
      by_cases hw1 : w = 1
      · rw [if_pos hw1] at ihT ihF
        by_cases d2 : q / 25 % 2 + q % 25 % 2 = 1
        · by_cases p0 : pt (L l) (q / 25) (q % 25) = 0
          · by_cases c0 : ca (L l) (q / 25) (q % 25) = 0
            · simp (disch := omega) only [wY_measure_77, wY_measure_139, wY_measure_170, wY_measure_190, jl_0, jl_1, jl_2, jl_3, jl_4, jl_5, jl_6, jl_7, jl_8, jl_9, jl_12, jl_13, jl_16, jl_24, jl_25, jl_50, jl_168, jl_169, jl_624, jl_625, jl_1000, jI_add, jI_sub, jI_mul, jI_neg, jI_div, ie_mod, jI_leT, jI_leF, jI_ltT, jI_ltF, jI_eqT, jI_eqF, jI_cl, jI_inT, forall_eq, true_implies, false_implies, implies_true, not_true_eq_false, not_false_eq_true, true_and, and_true, b2_0, b2_z, yy_pt hY hO, yy_ca hY hO]
              exact ihT (decide_eq_true ⟨d2, p0, c0⟩)
            · simp (disch := omega) only [wY_measure_77, wY_measure_139, wY_measure_170, wY_measure_190, jl_0, jl_1, jl_2, jl_3, jl_4, jl_5, jl_6, jl_7, jl_8, jl_9, jl_12, jl_13, jl_16, jl_24, jl_25, jl_50, jl_168, jl_169, jl_624, jl_625, jl_1000, jI_add, jI_sub, jI_mul, jI_neg, jI_div, ie_mod, jI_leT, jI_leF, jI_ltT, jI_ltF, jI_eqT, jI_eqF, jI_cl, jI_inT, forall_eq, true_implies, false_implies, implies_true, not_true_eq_false, not_false_eq_true, true_and, and_true, b2_0, b2_z, yy_pt hY hO, yy_ca hY hO]
              exact ihF (decide_eq_false (fun z => c0 z.2.2))
          · simp (disch := omega) only [wY_measure_77, wY_measure_139, wY_measure_170, wY_measure_190, jl_0, jl_1, jl_2, jl_3, jl_4, jl_5, jl_6, jl_7, jl_8, jl_9, jl_12, jl_13, jl_16, jl_24, jl_25, jl_50, jl_168, jl_169, jl_624, jl_625, jl_1000, jI_add, jI_sub, jI_mul, jI_neg, jI_div, ie_mod, jI_leT, jI_leF, jI_ltT, jI_ltF, jI_eqT, jI_eqF, jI_cl, jI_inT, forall_eq, true_implies, false_implies, implies_true, not_true_eq_false, not_false_eq_true, true_and, and_true, b2_0, b2_z, yy_pt hY hO]
            exact ihF (decide_eq_false (fun z => p0 z.2.1))
        · simp (disch := omega) only [wY_measure_77, wY_measure_139, wY_measure_170, wY_measure_190, jl_0, jl_1, jl_2, jl_3, jl_4, jl_5, jl_6, jl_7, jl_8, jl_9, jl_12, jl_13, jl_16, jl_24, jl_25, jl_50, jl_168, jl_169, jl_624, jl_625, jl_1000, jI_add, jI_sub, jI_mul, jI_neg, jI_div, ie_mod, jI_leT, jI_leF, jI_ltT, jI_ltF, jI_eqT, jI_eqF, jI_cl, jI_inT, forall_eq, true_implies, false_implies, implies_true, not_true_eq_false, not_false_eq_true, true_and, and_true, b2_0, b2_z, yy_pt hY hO]
          exact ihF (decide_eq_false (fun z => d2 z.1))
      · rw [if_neg hw1] at ihT ihF
        by_cases hw2 : w = 2
        · rw [if_pos hw2] at ihT ihF
          by_cases d2 : q / 25 % 2 + q % 25 % 2 = 1
          · by_cases p0 : pt (L l) (q / 25) (q % 25) = 1
            · simp (disch := omega) only [wY_measure_77, wY_measure_139, wY_measure_170, wY_measure_190, jl_0, jl_1, jl_2, jl_3, jl_4, jl_5, jl_6, jl_7, jl_8, jl_9, jl_12, jl_13, jl_16, jl_24, jl_25, jl_50, jl_168, jl_169, jl_624, jl_625, jl_1000, jI_add, jI_sub, jI_mul, jI_neg, jI_div, ie_mod, jI_leT, jI_leF, jI_ltT, jI_ltF, jI_eqT, jI_eqF, jI_cl, jI_inT, forall_eq, true_implies, false_implies, implies_true, not_true_eq_false, not_false_eq_true, true_and, and_true, b2_0, b2_z, yy_pt hY hO]
              exact ihT (decide_eq_true ⟨d2, p0⟩)
            · simp (disch := omega) only [wY_measure_77, wY_measure_139, wY_measure_170, wY_measure_190, jl_0, jl_1, jl_2, jl_3, jl_4, jl_5, jl_6, jl_7, jl_8, jl_9, jl_12, jl_13, jl_16, jl_24, jl_25, jl_50, jl_168, jl_169, jl_624, jl_625, jl_1000, jI_add, jI_sub, jI_mul, jI_neg, jI_div, ie_mod, jI_leT, jI_leF, jI_ltT, jI_ltF, jI_eqT, jI_eqF, jI_cl, jI_inT, forall_eq, true_implies, false_implies, implies_true, not_true_eq_false, not_false_eq_true, true_and, and_true, b2_0, b2_z, yy_pt hY hO]
              exact ihF (decide_eq_false (fun z => p0 z.2))
          · simp (disch := omega) only [wY_measure_77, wY_measure_139, wY_measure_170, wY_measure_190, jl_0, jl_1, jl_2, jl_3, jl_4, jl_5, jl_6, jl_7, jl_8, jl_9, jl_12, jl_13, jl_16, jl_24, jl_25, jl_50, jl_168, jl_169, jl_624, jl_625, jl_1000, jI_add, jI_sub, jI_mul, jI_neg, jI_div, ie_mod, jI_leT, jI_leF, jI_ltT, jI_ltF, jI_eqT, jI_eqF, jI_cl, jI_inT, forall_eq, true_implies, false_implies, implies_true, not_true_eq_false, not_false_eq_true, true_and, and_true, b2_0, b2_z, yy_pt hY hO]
            exact ihF (decide_eq_false (fun z => d2 z.1))
        · rw [if_neg hw2] at ihT ihF
          by_cases d2 : q / 25 % 2 + q % 25 % 2 = 0
          · by_cases p0 : pt (L l) (q / 25) (q % 25) = 1
            · simp (disch := omega) only [wY_measure_77, wY_measure_139, wY_measure_170, wY_measure_190, jl_0, jl_1, jl_2, jl_3, jl_4, jl_5, jl_6, jl_7, jl_8, jl_9, jl_12, jl_13, jl_16, jl_24, jl_25, jl_50, jl_168, jl_169, jl_624, jl_625, jl_1000, jI_add, jI_sub, jI_mul, jI_neg, jI_div, ie_mod, jI_leT, jI_leF, jI_ltT, jI_ltF, jI_eqT, jI_eqF, jI_cl, jI_inT, forall_eq, true_implies, false_implies, implies_true, not_true_eq_false, not_false_eq_true, true_and, and_true, b2_0, b2_z, yy_pt hY hO]
              exact ihT (decide_eq_true ⟨d2, p0⟩)
            · simp (disch := omega) only [wY_measure_77, wY_measure_139, wY_measure_170, wY_measure_190, jl_0, jl_1, jl_2, jl_3, jl_4, jl_5, jl_6, jl_7, jl_8, jl_9, jl_12, jl_13, jl_16, jl_24, jl_25, jl_50, jl_168, jl_169, jl_624, jl_625, jl_1000, jI_add, jI_sub, jI_mul, jI_neg, jI_div, ie_mod, jI_leT, jI_leF, jI_ltT, jI_ltF, jI_eqT, jI_eqF, jI_cl, jI_inT, forall_eq, true_implies, false_implies, implies_true, not_true_eq_false, not_false_eq_true, true_and, and_true, b2_0, b2_z, yy_pt hY hO]
              exact ihF (decide_eq_false (fun z => p0 z.2))
          · simp (disch := omega) only [wY_measure_77, wY_measure_139, wY_measure_170, wY_measure_190, jl_0, jl_1, jl_2, jl_3, jl_4, jl_5, jl_6, jl_7, jl_8, jl_9, jl_12, jl_13, jl_16, jl_24, jl_25, jl_50, jl_168, jl_169, jl_624, jl_625, jl_1000, jI_add, jI_sub, jI_mul, jI_neg, jI_div, ie_mod, jI_leT, jI_leF, jI_ltT, jI_ltF, jI_eqT, jI_eqF, jI_cl, jI_inT, forall_eq, true_implies, false_implies, implies_true, not_true_eq_false, not_false_eq_true, true_and, and_true, b2_0, b2_z, yy_pt hY hO]
            exact ihF (decide_eq_false (fun z => d2 z.1))
end
end
section
/-! ===== the nearest point ===== -/
def ds (x y i j : Int) : Int := max (i - 2 * x) (2 * x - i) + max (j - 2 * y) (2 * y - j)
def nB (x y d i j : Int) : Prop := (i % 2 = 0 ∧ 0 ≤ i ∧ i < 25) ∧ ds x y i j ≤ 2 * d
def NR (A : Int → Int → Bool) (x y m : Int) : Prop :=
  (m = -1 ∧ ∀ i j : Int, i % 2 = 0 → j % 2 = 0 → A i j = false) ∨ (0 ≤ m ∧ (∃ i j : Int, i % 2 = 0 ∧ j % 2 = 0 ∧ A i j = true ∧ ds x y i j = 2 * m) ∧ ∀ i j : Int, i % 2 = 0 → j % 2 = 0 → A i j = true → 2 * m ≤ ds x y i j)
theorem nr_u {A : Int → Int → Bool} {x y m m' : Int} (h : NR A x y m) (h' : NR A x y m') : m = m' := by
  rcases h with ⟨h, h1⟩ | ⟨h, ⟨i, j, a, b, d, e⟩, h2⟩
  · rcases h' with ⟨h', h1'⟩ | ⟨h', ⟨i', j', a', b', d', e'⟩, h2'⟩
    · omega
    · rw [h1 i' j' a' b'] at d'; cases d'
  · rcases h' with ⟨h', h1'⟩ | ⟨h', ⟨i', j', a', b', d', e'⟩, h2'⟩
    · rw [h1' i j a b] at d; cases d
    · have := h2 i' j' a' b' d'
      have := h2' i j a b d
      omega
theorem nb_s {x y d i j : Int} (hd : 0 ≤ d) (hi : 0 ≤ i) (hx : 0 ≤ x ∧ x ≤ 12) (hy : 0 ≤ y ∧ y ≤ 12) (hj : j % 2 = 0 ∧ 0 ≤ j ∧ j < 25) :
    nB x y (d + 1) i j ↔ i < 25 ∧ (nB x y d i j ∨ nB x y d (i - 2) j ∨ nB x y d (i + 2) j ∨ (2 ≤ j ∧ nB x y d i (j - 2)) ∨ (j ≤ 22 ∧ nB x y d i (j + 2))) := by
  unfold nB ds
  constructor
  · rintro ⟨⟨a, b, e⟩, f⟩
    refine ⟨e, ?_⟩
    by_cases z : max (i - 2 * x) (2 * x - i) + max (j - 2 * y) (2 * y - j) ≤ 2 * d
    · exact Or.inl ⟨⟨a, b, e⟩, z⟩
    · by_cases z1 : 2 * x < i
      · exact Or.inr (Or.inl ⟨⟨by omega, by omega, by omega⟩, by omega⟩)
      · by_cases z2 : i < 2 * x
        · exact Or.inr (Or.inr (Or.inl ⟨⟨by omega, by omega, by omega⟩, by omega⟩))
        · by_cases z3 : 2 * y < j
          · exact Or.inr (Or.inr (Or.inr (Or.inl ⟨by omega, ⟨a, b, e⟩, by omega⟩)))
          · by_cases z4 : j < 2 * y
            · exact Or.inr (Or.inr (Or.inr (Or.inr ⟨by omega, ⟨a, b, e⟩, by omega⟩)))
            · exact Or.inl ⟨⟨a, b, e⟩, by omega⟩
  · rintro ⟨e, (h | h | h | h | h)⟩
    · exact ⟨⟨by omega, by omega, by omega⟩, by omega⟩
    · exact ⟨⟨by omega, by omega, by omega⟩, by omega⟩
    · refine ⟨⟨by omega, ?_, by omega⟩, by omega⟩
      omega
    · exact ⟨⟨by omega, by omega, by omega⟩, by omega⟩
    · exact ⟨⟨by omega, by omega, by omega⟩, by omega⟩
theorem nw_v {x y d j : Int} (hd : 0 ≤ d) (hx : 0 ≤ x ∧ x ≤ 12) (hy : 0 ≤ y ∧ y ≤ 12) (hj : j % 2 = 0 ∧ 0 ≤ j ∧ j < 25) (p q : Int → Bool) (hp : ∀ i, p i = ex (2 ≤ j ∧ nB x y d i (j - 2))) (hq : ∀ i, q i = ex (j ≤ 22 ∧ nB x y d i (j + 2))) :
    ((((wd (fun i => ex (nB x y d i j)) ||| ((wd (fun i => ex (nB x y d i j)) <<< (jI 2 &&& 31)) &&& 33554431)) ||| (wd (fun i => ex (nB x y d i j)) >>> (jI 2 &&& 31))) ||| wd p) ||| wd q) = wd (fun i => ex (nB x y (d + 1) i j)) := by
  rw [wd_shl _ (by omega), wd_shr _ (by omega), wd_mF, wd_and, wd_or, wd_or, wd_or, wd_or]
  refine wd_c (fun i i0 i1 => ?_)
  rw [hp, hq]
  have e1 : ((decide (2 ≤ i) && ex (nB x y d (i - 2) j)) && decide (i < 25)) = ex (i < 25 ∧ nB x y d (i - 2) j) := by
    rw [ex_d, ex_d, ex_and, ex_and]
    exact ex_c ⟨fun z => ⟨z.2, z.1.2⟩, fun z => ⟨⟨by have := z.2.1; omega, z.2⟩, z.1⟩⟩
  have e2 : (if i + 2 < 32 then ex (nB x y d (i + 2) j) else ex (nB x y d 31 j)) = ex (nB x y d (i + 2) j) := by
    by_cases z : i + 2 < 32
    · rw [if_pos z]
    · rw [if_neg z, ex_F (fun w => by have := w.1; omega), ex_F (fun w => by have := w.1; omega)]
  rw [e1, e2, ex_or, ex_or, ex_or, ex_or]
  refine ex_c ?_
  rw [nb_s hd i0 hx hy hj]
  constructor
  · rintro ((((h | h) | h) | h) | h)
    · exact ⟨h.1.2.2, Or.inl h⟩
    · exact ⟨h.1, Or.inr (Or.inl h.2)⟩
    · exact ⟨by have := h.1; omega, Or.inr (Or.inr (Or.inl h))⟩
    · exact ⟨h.2.1.2.2, Or.inr (Or.inr (Or.inr (Or.inl h)))⟩
    · exact ⟨h.2.1.2.2, Or.inr (Or.inr (Or.inr (Or.inr h)))⟩
  · rintro ⟨h25, (h | h | h | h | h)⟩
    · exact Or.inl (Or.inl (Or.inl (Or.inl h)))
    · exact Or.inl (Or.inl (Or.inl (Or.inr ⟨h25, h⟩)))
    · exact Or.inl (Or.inl (Or.inr h))
    · exact Or.inl (Or.inr h)
    · exact Or.inr h
section
variable {c bd : Int32} {rows drawn passed work inner crn rfr rto par cel opn rst : Nat → Int32}
variable {post : Int32 → SX → Prop}
theorem xx_near57 {L : Int → Int → Int → Bool} (hR : RX L rows) (hO : RO L) {l x y : Int} (hl : 0 ≤ l ∧ l < 6) (hx : 0 ≤ x ∧ x ≤ 12) (hy : 0 ≤ y ∧ y ≤ 12)
    (hp : ∀ (m : Int) (work' inner' : Nat → Int32), NR (L l) x y m → post (jI m) (c, bd, rows, drawn, passed, work', inner', crn, rfr, rto, par, cel, opn, rst))
    (hW : ∀ j : Int, 0 ≤ j → j < 25 → j % 2 = 0 → work j.toNat = wd (fun i => ex (nB x y 0 i j))) : ∃ n, wX_nearest_57 post (jI l) c bd n (jI 0) rows drawn passed work inner crn rfr rto par cel opn rst := by
  have hin : ∀ i j : Int, L l i j = true → 0 ≤ i ∧ i < 25 ∧ 0 ≤ j ∧ j < 25 := fun i j h => by
    apply Classical.byContradiction
    intro q
    rw [hO l i j q] at h
    cases h
  refine lj_i (fun n d s => wX_nearest_57 post (jI l) c bd n (jI d) rows drawn passed s.1 s.2 crn rfr rto par cel opn rst) (fun d s => (∀ j : Int, 0 ≤ j → j < 25 → j % 2 = 0 → s.1 j.toNat = wd (fun i => ex (nB x y d i j))) ∧ ∀ i j : Int, i % 2 = 0 → j % 2 = 0 → L l i j = true → 2 * d ≤ ds x y i j) 0 25 (s0 := (work, inner)) ⟨hW, fun i j _ _ _ => by unfold ds; omega⟩ (by omega) (fun n s hI => ?_) (fun n d s h0 h1 hI ih => ?_)
  · simp (disch := omega) only [wX_nearest_57, jl_0, jl_1, jl_2, jl_3, jl_4, jl_5, jl_6, jl_7, jl_8, jl_9, jl_12, jl_13, jl_16, jl_24, jl_25, jl_50, jl_168, jl_169, jl_624, jl_625, jl_1000, jI_add, jI_sub, jI_mul, jI_neg, jI_div, ie_mod, jI_leT, jI_leF, jI_ltT, jI_ltF, jI_eqT, jI_eqF, jI_cl, jI_inT, forall_eq, true_implies, false_implies, implies_true, not_true_eq_false, not_false_eq_true, true_and, and_true, b2_0, b2_z]
    refine hp (-1) _ _ (Or.inl ⟨rfl, fun i j hi hj => ?_⟩)
    cases e : L l i j with
    | false => rfl
    | true =>
      have h1 := hI.2 i j hi hj e
      have h2 := hin i j e
      unfold ds at h1
      omega
  · obtain ⟨work, inner⟩ := s
    obtain ⟨hW, hN⟩ := hI
    dsimp only at hW ⊢
    simp (disch := omega) only [wX_nearest_57, jl_0, jl_1, jl_2, jl_3, jl_4, jl_5, jl_6, jl_7, jl_8, jl_9, jl_12, jl_13, jl_16, jl_24, jl_25, jl_50, jl_168, jl_169, jl_624, jl_625, jl_1000, jI_add, jI_sub, jI_mul, jI_neg, jI_div, ie_mod, jI_leT, jI_leF, jI_ltT, jI_ltF, jI_eqT, jI_eqF, jI_cl, jI_inT, forall_eq, true_implies, false_implies, implies_true, not_true_eq_false, not_false_eq_true, true_and, and_true, b2_0, b2_z]
    have := lj_a (fun n70 k s => wX_nearest_70 post (wX_nearest_57 post (jI l) c bd n) (jI l) (jI d) c bd rows drawn passed work inner crn rfr rto par cel opn rst n70 s (jI (2 * k))) (fun k => wd (fun i => ex (∃ j : Int, (0 ≤ j ∧ j < 2 * k ∧ j < 25 ∧ j % 2 = 0) ∧ nB x y d i j ∧ L l i j = true))) 0 13 (s0 := jI 0) ?_ (by omega) (fun n70 => ?_) (fun n70 k k0 k1 ih2 => ?_)
    · exact this
    · refine wd_J0.trans (wd_c (fun i _ _ => (ex_F ?_).symm))
      rintro ⟨j, hj, _⟩
      omega
    · simp (disch := omega) only [wX_nearest_70, jl_0, jl_1, jl_2, jl_3, jl_4, jl_5, jl_6, jl_7, jl_8, jl_9, jl_12, jl_13, jl_16, jl_24, jl_25, jl_50, jl_168, jl_169, jl_624, jl_625, jl_1000, jI_add, jI_sub, jI_mul, jI_neg, jI_div, ie_mod, jI_leT, jI_leF, jI_ltT, jI_ltF, jI_eqT, jI_eqF, jI_cl, jI_inT, forall_eq, true_implies, false_implies, implies_true, not_true_eq_false, not_false_eq_true, true_and, and_true, b2_0, b2_z]
      refine br_c (fun hz => ?_) (fun hz => ?_)
      · rw [wd_eq0] at hz
        have hN2 : ∀ i j : Int, i % 2 = 0 → j % 2 = 0 → L l i j = true → 2 * (d + 1) ≤ ds x y i j := by
          intro i j hi hj hL
          have h2 := hin i j hL
          have h3 := hN i j hi hj hL
          have h4 : ¬ ds x y i j ≤ 2 * d := fun z => by
            have := hz i h2.1 (by omega)
            rw [ex_f] at this
            exact this ⟨j, ⟨h2.2.2.1, by omega, h2.2.2.2, hj⟩, ⟨⟨hi, h2.1, h2.2.1⟩, z⟩, hL⟩
          have : ds x y i j % 2 = 0 := by unfold ds; omega
          omega
        have l114 := lj_a (fun n114 k s => wX_nearest_114 post (wX_nearest_57 post (jI l) c bd n) (jI l) (jI d) c bd n114 (jI (2 * k)) rows drawn passed work s crn rfr rto par cel opn rst) (fun k => we inner 0 k (fun j => wd (fun i => ex (nB x y (d + 1) i j)))) 0 13 (s0 := inner) (we_0 _ _ _).symm (by omega) (fun n114 => ?_) (fun n114 k k0 k1 ih3 => ?_)
        · exact l114
        · simp (disch := omega) only [wX_nearest_114, jl_0, jl_1, jl_2, jl_3, jl_4, jl_5, jl_6, jl_7, jl_8, jl_9, jl_12, jl_13, jl_16, jl_24, jl_25, jl_50, jl_168, jl_169, jl_624, jl_625, jl_1000, jI_add, jI_sub, jI_mul, jI_neg, jI_div, ie_mod, jI_leT, jI_leF, jI_ltT, jI_ltF, jI_eqT, jI_eqF, jI_cl, jI_inT, forall_eq, true_implies, false_implies, implies_true, not_true_eq_false, not_false_eq_true, true_and, and_true, b2_0, b2_z]
          have l215 := lj_a (fun n215 k s => wX_nearest_215 post (wX_nearest_57 post (jI l) c bd n) (jI l) (jI d) c bd n215 (jI (2 * k)) rows drawn passed s (we inner 0 13 (fun j => wd (fun i => ex (nB x y (d + 1) i j)))) crn rfr rto par cel opn rst) (fun k => we work 0 k (fun j => wd (fun i => ex (nB x y (d + 1) i j)))) 0 13 (s0 := work) (we_0 _ _ _).symm (by omega) (fun n215 => ?_) (fun n215 k k0 k1 ih3 => ?_)
          · exact l215
          · simp (disch := omega) only [wX_nearest_215, jl_0, jl_1, jl_2, jl_3, jl_4, jl_5, jl_6, jl_7, jl_8, jl_9, jl_12, jl_13, jl_16, jl_24, jl_25, jl_50, jl_168, jl_169, jl_624, jl_625, jl_1000, jI_add, jI_sub, jI_mul, jI_neg, jI_div, ie_mod, jI_leT, jI_leF, jI_ltT, jI_ltF, jI_eqT, jI_eqF, jI_cl, jI_inT, forall_eq, true_implies, false_implies, implies_true, not_true_eq_false, not_false_eq_true, true_and, and_true, b2_0, b2_z]
            exact ih (we work 0 13 (fun j => wd (fun i => ex (nB x y (d + 1) i j))), we inner 0 13 (fun j => wd (fun i => ex (nB x y (d + 1) i j)))) ⟨fun j j0 j1 j2 => we_r (f := work) (o := 0) (m := 13) (g := fun j => wd (fun i => ex (nB x y (d + 1) i j))) (z := j) (by omega), hN2⟩
          · simp (disch := omega) only [wX_nearest_215, jl_0, jl_1, jl_2, jl_3, jl_4, jl_5, jl_6, jl_7, jl_8, jl_9, jl_12, jl_13, jl_16, jl_24, jl_25, jl_50, jl_168, jl_169, jl_624, jl_625, jl_1000, jI_add, jI_sub, jI_mul, jI_neg, jI_div, ie_mod, jI_leT, jI_leF, jI_ltT, jI_ltF, jI_eqT, jI_eqF, jI_cl, jI_inT, forall_eq, true_implies, false_implies, implies_true, not_true_eq_false, not_false_eq_true, true_and, and_true, b2_0, b2_z, we_r]
            rw [show 2 * k + 2 = 2 * (k + 1) by omega]
            have := we_S work (o := 0) (m := k) (fun j => wd (fun i => ex (nB x y (d + 1) i j))) (x := wd (fun i => ex (nB x y (d + 1) i (2 * k)))) (by omega) (by rw [Int.zero_add])
            rw [Int.zero_add] at this
            rw [this]
            exact ih3
        · have hS := we_S inner (o := 0) (m := k) (fun j => wd (fun i => ex (nB x y (d + 1) i j))) (x := wd (fun i => ex (nB x y (d + 1) i (2 * k)))) (by omega) (by rw [Int.zero_add])
          rw [Int.zero_add] at hS
          by_cases z0 : k = 0
          · have v := nw_v (x := x) (y := y) (d := d) (j := 2 * k) h0 hx hy (by omega) (fun _ => false) (fun i => ex (nB x y d i (2 * k + 2))) (fun i => (ex_F (by omega)).symm) (fun i => ex_c ⟨fun q => ⟨by omega, q⟩, fun q => q.2⟩)
            simp (disch := omega) only [wX_nearest_114, wX_nearest_139, wX_nearest_161, jl_0, jl_1, jl_2, jl_3, jl_4, jl_5, jl_6, jl_7, jl_8, jl_9, jl_12, jl_13, jl_16, jl_24, jl_25, jl_50, jl_168, jl_169, jl_624, jl_625, jl_1000, jI_add, jI_sub, jI_mul, jI_neg, jI_div, ie_mod, jI_leT, jI_leF, jI_ltT, jI_ltF, jI_eqT, jI_eqF, jI_cl, jI_inT, forall_eq, true_implies, false_implies, implies_true, not_true_eq_false, not_false_eq_true, true_and, and_true, b2_0, b2_z, hW]
            rw [wd_J0, v, hS, show 2 * k + 2 = 2 * (k + 1) by omega]
            exact ih3
          · by_cases z24 : k = 12
            · have v := nw_v (x := x) (y := y) (d := d) (j := 2 * k) h0 hx hy (by omega) (fun i => ex (nB x y d i (2 * k - 2))) (fun _ => false) (fun i => ex_c ⟨fun q => ⟨by omega, q⟩, fun q => q.2⟩) (fun i => (ex_F (by omega)).symm)
              simp (disch := omega) only [wX_nearest_114, wX_nearest_139, wX_nearest_161, jl_0, jl_1, jl_2, jl_3, jl_4, jl_5, jl_6, jl_7, jl_8, jl_9, jl_12, jl_13, jl_16, jl_24, jl_25, jl_50, jl_168, jl_169, jl_624, jl_625, jl_1000, jI_add, jI_sub, jI_mul, jI_neg, jI_div, ie_mod, jI_leT, jI_leF, jI_ltT, jI_ltF, jI_eqT, jI_eqF, jI_cl, jI_inT, forall_eq, true_implies, false_implies, implies_true, not_true_eq_false, not_false_eq_true, true_and, and_true, b2_0, b2_z, hW]
              rw [wd_J0, v, hS, show 2 * k + 2 = 2 * (k + 1) by omega]
              exact ih3
            · have v := nw_v (x := x) (y := y) (d := d) (j := 2 * k) h0 hx hy (by omega) (fun i => ex (nB x y d i (2 * k - 2))) (fun i => ex (nB x y d i (2 * k + 2))) (fun i => ex_c ⟨fun q => ⟨by omega, q⟩, fun q => q.2⟩) (fun i => ex_c ⟨fun q => ⟨by omega, q⟩, fun q => q.2⟩)
              simp (disch := omega) only [wX_nearest_114, wX_nearest_139, wX_nearest_161, jl_0, jl_1, jl_2, jl_3, jl_4, jl_5, jl_6, jl_7, jl_8, jl_9, jl_12, jl_13, jl_16, jl_24, jl_25, jl_50, jl_168, jl_169, jl_624, jl_625, jl_1000, jI_add, jI_sub, jI_mul, jI_neg, jI_div, ie_mod, jI_leT, jI_leF, jI_ltT, jI_ltF, jI_eqT, jI_eqF, jI_cl, jI_inT, forall_eq, true_implies, false_implies, implies_true, not_true_eq_false, not_false_eq_true, true_and, and_true, b2_0, b2_z, hW]
              rw [v, hS, show 2 * k + 2 = 2 * (k + 1) by omega]
              exact ih3
      · rw [wd_ne0] at hz
        obtain ⟨i, i0, i1, hz⟩ := hz
        rw [ex_t] at hz
        obtain ⟨j, hj, hb, hL⟩ := hz
        refine hp d _ _ (Or.inr ⟨h0, ⟨i, j, hb.1.1, hj.2.2.2, hL, ?_⟩, hN⟩)
        have := hN i j hb.1.1 hj.2.2.2 hL
        have := hb.2
        omega
    · simp (disch := omega) only [wX_nearest_70, jl_0, jl_1, jl_2, jl_3, jl_4, jl_5, jl_6, jl_7, jl_8, jl_9, jl_12, jl_13, jl_16, jl_24, jl_25, jl_50, jl_168, jl_169, jl_624, jl_625, jl_1000, jI_add, jI_sub, jI_mul, jI_neg, jI_div, ie_mod, jI_leT, jI_leF, jI_ltT, jI_ltF, jI_eqT, jI_eqF, jI_cl, jI_inT, forall_eq, true_implies, false_implies, implies_true, not_true_eq_false, not_false_eq_true, true_and, and_true, b2_0, b2_z, xx_row hR hO, hW, wd_and, wd_or]
      rw [show 2 * k + 2 = 2 * (k + 1) by omega]
      refine Eq.mp ?_ ih2
      congr 1
      refine wd_c (fun i i0 i1 => ?_)
      rw [ex_b (L l i (2 * k)), ex_and, ex_or]
      refine ex_c ⟨?_, ?_⟩
      · rintro ⟨j, hj, hb⟩
        by_cases z : j < 2 * k
        · exact Or.inl ⟨j, by omega, hb⟩
        · have : j = 2 * k := by omega
          subst this
          exact Or.inr hb
      · rintro (⟨j, hj, hb⟩ | hb)
        · exact ⟨j, by omega, hb⟩
        · exact ⟨2 * k, by omega, hb⟩
end
section
variable {cy : Int32} {lys fil mad st px py lab : Nat → Int32}
variable {post : Int32 → Prop}
theorem yy_near25 {L : Int → Int → Int → Bool} (hY : RY L lys) (hO : RO L) {l x y : Int} (hl : 0 ≤ l ∧ l < 6) (hx : 0 ≤ x ∧ x ≤ 12) (hy : 0 ≤ y ∧ y ≤ 12)
    (hp : ∀ m : Int, NR (L l) x y m → post (jI m)) : ∃ n, wY_nearest_25 post (jI l) (jI x) (jI y) cy lys fil mad st px py lab n (jI (-1)) (jI 0) := by
  refine lj_i (fun n q s => wY_nearest_25 post (jI l) (jI x) (jI y) cy lys fil mad st px py lab n s (jI q)) (fun q s => ∃ m : Int, s = jI m ∧ -1 ≤ m ∧ m ≤ 24 ∧ NR (fun i j => L l i j && decide (13 * (i / 2) + j / 2 < q)) x y m) 0 169 ?_ (by omega) (fun n s hI => ?_) (fun n q s h0 h1 hI ih => ?_)
  · refine ⟨-1, rfl, by omega, by omega, Or.inl ⟨rfl, fun i j _ _ => ?_⟩⟩
    show (L l i j && decide (13 * (i / 2) + j / 2 < 0)) = false
    by_cases e : 0 ≤ i ∧ i < 25 ∧ 0 ≤ j ∧ j < 25
    · rw [decide_eq_false (by omega), Bool.and_false]
    · rw [hO l i j e, Bool.false_and]
  · obtain ⟨m, rfl, m0, m1, hm⟩ := hI
    simp (disch := omega) only [wY_nearest_25, jl_0, jl_1, jl_2, jl_3, jl_4, jl_5, jl_6, jl_7, jl_8, jl_9, jl_12, jl_13, jl_16, jl_24, jl_25, jl_50, jl_168, jl_169, jl_624, jl_625, jl_1000, jI_add, jI_sub, jI_mul, jI_neg, jI_div, ie_mod, jI_leT, jI_leF, jI_ltT, jI_ltF, jI_eqT, jI_eqF, jI_cl, jI_inT, forall_eq, true_implies, false_implies, implies_true, not_true_eq_false, not_false_eq_true, true_and, and_true, b2_0, b2_z]
    have e : (fun i j => L l i j && decide (13 * (i / 2) + j / 2 < 169)) = L l := by
      funext i j
      by_cases e : 0 ≤ i ∧ i < 25 ∧ 0 ≤ j ∧ j < 25
      · rw [decide_eq_true (by omega), Bool.and_true]
      · rw [hO l i j e, Bool.false_and]
    rw [e] at hm
    exact hp m hm
  · obtain ⟨m, rfl, m0, m1, hm⟩ := hI
    have hds : ds x y (2 * (q / 13)) (2 * (q % 13)) = 2 * (max (q / 13 - x) (x - q / 13) + max (q % 13 - y) (y - q % 13)) := by unfold ds; omega
    have hcell : ∀ i j : Int, i % 2 = 0 → j % 2 = 0 → L l i j = true → 13 * (i / 2) + j / 2 < q + 1 → ¬ 13 * (i / 2) + j / 2 < q → i = 2 * (q / 13) ∧ j = 2 * (q % 13) := by
      intro i j hi hj hL ha hb
      have hin : 0 ≤ i ∧ i < 25 ∧ 0 ≤ j ∧ j < 25 := by
        apply Classical.byContradiction
        intro w
        rw [hO l i j w] at hL
        cases hL
      omega
    have step : ∀ D : Int, 2 * D = ds x y (2 * (q / 13)) (2 * (q % 13)) → ∀ z0 z1 : Int, z1 + z0 = D →
        wY_nearest_81 post (wY_nearest_25 post (jI l) (jI x) (jI y) cy lys fil mad st px py lab n) (jI l) (jI x) (jI y) (jI m) (jI q) (jI (q / 13)) (jI (q % 13)) (jI z0) (jI z1) cy lys fil mad st px py lab := by
      intro D hD z0 z1 hz
      have hD0 : 0 ≤ D ∧ D ≤ 24 := by unfold ds at hD; omega
      simp (disch := omega) only [wY_nearest_81, jl_0, jl_1, jl_2, jl_3, jl_4, jl_5, jl_6, jl_7, jl_8, jl_9, jl_12, jl_13, jl_16, jl_24, jl_25, jl_50, jl_168, jl_169, jl_624, jl_625, jl_1000, jI_add, jI_sub, jI_mul, jI_neg, jI_div, ie_mod, jI_leT, jI_leF, jI_ltT, jI_ltF, jI_eqT, jI_eqF, jI_cl, jI_inT, forall_eq, true_implies, false_implies, implies_true, not_true_eq_false, not_false_eq_true, true_and, and_true, b2_0, b2_z, yy_in hY hO, hz]
      refine tf_c (fun e => ?_) (fun e => ?_)
      · refine ih _ ⟨m, rfl, m0, m1, ?_⟩
        have e2 : (fun i j => L l i j && decide (13 * (i / 2) + j / 2 < q + 1)) = fun i j => if i % 2 = 0 ∧ j % 2 = 0 then L l i j && decide (13 * (i / 2) + j / 2 < q) else L l i j && decide (13 * (i / 2) + j / 2 < q + 1) := by
          funext i j
          by_cases hij : i % 2 = 0 ∧ j % 2 = 0
          · rw [if_pos hij]
            cases hL : L l i j with
            | false => rfl
            | true =>
              rw [Bool.true_and, Bool.true_and]
              refine decide_eq_decide.mpr ⟨fun ha => ?_, fun ha => by omega⟩
              apply Classical.byContradiction
              intro hb
              have := hcell i j hij.1 hij.2 hL ha hb
              rw [this.1, this.2, e] at hL
              cases hL
          · rw [if_neg hij]
        rw [e2]
        rcases hm with ⟨ha, hb⟩ | ⟨ha, ⟨i, j, hb, hc, hd, he⟩, hf⟩
        · exact Or.inl ⟨ha, fun i j hi hj => by dsimp only; rw [if_pos ⟨hi, hj⟩]; exact hb i j hi hj⟩
        · refine Or.inr ⟨ha, ⟨i, j, hb, hc, by dsimp only; rw [if_pos ⟨hb, hc⟩]; exact hd, he⟩, fun i j hi hj hL => hf i j hi hj ?_⟩
          dsimp only at hL
          rw [if_pos ⟨hi, hj⟩] at hL
          exact hL
      · have nw : (∀ i j : Int, i % 2 = 0 → j % 2 = 0 → (L l i j && decide (13 * (i / 2) + j / 2 < q)) = true → 2 * D ≤ ds x y i j) → NR (fun i j => L l i j && decide (13 * (i / 2) + j / 2 < q + 1)) x y D := by
          intro hall
          refine Or.inr ⟨hD0.1, ⟨2 * (q / 13), 2 * (q % 13), by omega, by omega, ?_, hD.symm⟩, fun i j hi hj hL => ?_⟩
          · show (L l (2 * (q / 13)) (2 * (q % 13)) && decide (13 * (2 * (q / 13) / 2) + 2 * (q % 13) / 2 < q + 1)) = true
            rw [e, decide_eq_true (by omega)]; rfl
          · rw [Bool.and_eq_true, decide_eq_true_eq] at hL
            by_cases hb : 13 * (i / 2) + j / 2 < q
            · exact hall i j hi hj (by rw [hL.1, decide_eq_true hb]; rfl)
            · have := hcell i j hi hj hL.1 hL.2 hb
              rw [this.1, this.2]
              omega
        have kp : 2 * m ≤ ds x y (2 * (q / 13)) (2 * (q % 13)) → 0 ≤ m → NR (fun i j => L l i j && decide (13 * (i / 2) + j / 2 < q + 1)) x y m := by
          intro hle hm0
          rcases hm with ⟨ha, hb⟩ | ⟨ha, ⟨i, j, hb, hc, hd, he⟩, hf⟩
          · omega
          · refine Or.inr ⟨ha, ⟨i, j, hb, hc, ?_, he⟩, fun i j hi hj hL => ?_⟩
            · rw [Bool.and_eq_true, decide_eq_true_eq] at hd
              show (L l i j && decide (13 * (i / 2) + j / 2 < q + 1)) = true
              rw [hd.1, decide_eq_true (by omega)]; rfl
            · rw [Bool.and_eq_true, decide_eq_true_eq] at hL
              by_cases hb : 13 * (i / 2) + j / 2 < q
              · exact hf i j hi hj (by show (L l i j && decide _) = true; rw [hL.1, decide_eq_true hb]; rfl)
              · have := hcell i j hi hj hL.1 hL.2 hb
                rw [this.1, this.2]
                exact hle
        by_cases c1 : m < 0
        · simp (disch := omega) only [jl_0, jl_1, jl_2, jl_3, jl_4, jl_5, jl_6, jl_7, jl_8, jl_9, jl_12, jl_13, jl_16, jl_24, jl_25, jl_50, jl_168, jl_169, jl_624, jl_625, jl_1000, jI_add, jI_sub, jI_mul, jI_neg, jI_div, ie_mod, jI_leT, jI_leF, jI_ltT, jI_ltF, jI_eqT, jI_eqF, jI_cl, jI_inT, forall_eq, true_implies, false_implies, implies_true, not_true_eq_false, not_false_eq_true, true_and, and_true, b2_0, b2_z]
          refine ih _ ⟨D, rfl, by omega, by omega, nw (fun i j hi hj hL => ?_)⟩
          rcases hm with ⟨ha, hb⟩ | ⟨ha, _⟩
          · have := hL.symm.trans (hb i j hi hj)
            cases this
          · omega
        · by_cases c2 : m ≤ D
          · simp (disch := omega) only [jl_0, jl_1, jl_2, jl_3, jl_4, jl_5, jl_6, jl_7, jl_8, jl_9, jl_12, jl_13, jl_16, jl_24, jl_25, jl_50, jl_168, jl_169, jl_624, jl_625, jl_1000, jI_add, jI_sub, jI_mul, jI_neg, jI_div, ie_mod, jI_leT, jI_leF, jI_ltT, jI_ltF, jI_eqT, jI_eqF, jI_cl, jI_inT, forall_eq, true_implies, false_implies, implies_true, not_true_eq_false, not_false_eq_true, true_and, and_true, b2_0, b2_z]
            exact ih _ ⟨m, rfl, m0, m1, kp (by omega) (by omega)⟩
          · simp (disch := omega) only [jl_0, jl_1, jl_2, jl_3, jl_4, jl_5, jl_6, jl_7, jl_8, jl_9, jl_12, jl_13, jl_16, jl_24, jl_25, jl_50, jl_168, jl_169, jl_624, jl_625, jl_1000, jI_add, jI_sub, jI_mul, jI_neg, jI_div, ie_mod, jI_leT, jI_leF, jI_ltT, jI_ltF, jI_eqT, jI_eqF, jI_cl, jI_inT, forall_eq, true_implies, false_implies, implies_true, not_true_eq_false, not_false_eq_true, true_and, and_true, b2_0, b2_z]
            refine ih _ ⟨D, rfl, by omega, by omega, nw (fun i j hi hj hL => ?_)⟩
            rcases hm with ⟨ha, hb⟩ | ⟨ha, _, hf⟩
            · omega
            · have := hf i j hi hj hL
              omega
    by_cases a1 : x ≤ q / 13
    · by_cases a2 : y ≤ q % 13
      · simp (disch := omega) only [wY_nearest_25, wY_nearest_64, jl_0, jl_1, jl_2, jl_3, jl_4, jl_5, jl_6, jl_7, jl_8, jl_9, jl_12, jl_13, jl_16, jl_24, jl_25, jl_50, jl_168, jl_169, jl_624, jl_625, jl_1000, jI_add, jI_sub, jI_mul, jI_neg, jI_div, ie_mod, jI_leT, jI_leF, jI_ltT, jI_ltF, jI_eqT, jI_eqF, jI_cl, jI_inT, forall_eq, true_implies, false_implies, implies_true, not_true_eq_false, not_false_eq_true, true_and, and_true, b2_0, b2_z]
        exact step (q / 13 - x + (q % 13 - y)) (by rw [hds]; omega) _ _ rfl
      · simp (disch := omega) only [wY_nearest_25, wY_nearest_64, jl_0, jl_1, jl_2, jl_3, jl_4, jl_5, jl_6, jl_7, jl_8, jl_9, jl_12, jl_13, jl_16, jl_24, jl_25, jl_50, jl_168, jl_169, jl_624, jl_625, jl_1000, jI_add, jI_sub, jI_mul, jI_neg, jI_div, ie_mod, jI_leT, jI_leF, jI_ltT, jI_ltF, jI_eqT, jI_eqF, jI_cl, jI_inT, forall_eq, true_implies, false_implies, implies_true, not_true_eq_false, not_false_eq_true, true_and, and_true, b2_0, b2_z]
        exact step (q / 13 - x + (y - q % 13)) (by rw [hds]; omega) _ _ rfl
    · by_cases a2 : y ≤ q % 13
      · simp (disch := omega) only [wY_nearest_25, wY_nearest_64, jl_0, jl_1, jl_2, jl_3, jl_4, jl_5, jl_6, jl_7, jl_8, jl_9, jl_12, jl_13, jl_16, jl_24, jl_25, jl_50, jl_168, jl_169, jl_624, jl_625, jl_1000, jI_add, jI_sub, jI_mul, jI_neg, jI_div, ie_mod, jI_leT, jI_leF, jI_ltT, jI_ltF, jI_eqT, jI_eqF, jI_cl, jI_inT, forall_eq, true_implies, false_implies, implies_true, not_true_eq_false, not_false_eq_true, true_and, and_true, b2_0, b2_z]
        exact step (x - q / 13 + (q % 13 - y)) (by rw [hds]; omega) _ _ rfl
      · simp (disch := omega) only [wY_nearest_25, wY_nearest_64, jl_0, jl_1, jl_2, jl_3, jl_4, jl_5, jl_6, jl_7, jl_8, jl_9, jl_12, jl_13, jl_16, jl_24, jl_25, jl_50, jl_168, jl_169, jl_624, jl_625, jl_1000, jI_add, jI_sub, jI_mul, jI_neg, jI_div, ie_mod, jI_leT, jI_leF, jI_ltT, jI_ltF, jI_eqT, jI_eqF, jI_cl, jI_inT, forall_eq, true_implies, false_implies, implies_true, not_true_eq_false, not_false_eq_true, true_and, and_true, b2_0, b2_z]
        exact step (x - q / 13 + (y - q % 13)) (by rw [hds]; omega) _ _ rfl
end
theorem i_vc_nearest {k : Nat} {u : SX} {v : SY} (I : i_Rel k u v) (hk : k + 5 ≤ 2560) (v1 : Int32) (v2 : Int32) (v3 : Int32) : wpX_nearest (fun r u' => wpY_nearest (fun r' => r' = r ∧ i_Rel (k + 5) u' v) v v1 v2 v3) u v1 v2 v3 := by
  refine rl_el (P := fun u v => wpX_nearest (fun r u' => wpY_nearest (fun r' => r' = r ∧ i_Rel (k + 5) u' v) v v1 v2 v3) u v1 v2 v3) ?_ I
  intro L c xs ys bd rows drawn passed work inner crn rfr rto par cel opn rst lys fil mad st px py lab hR
  obtain ⟨l, a1, a2, rfl⟩ := jI_ex v1
  obtain ⟨x, b1, b2', rfl⟩ := jI_ex v2
  obtain ⟨y, c1, c2, rfl⟩ := jI_ex v3
  by_cases hl : 0 ≤ l ∧ l < 6
  · by_cases hr : 0 ≤ x ∧ x < 13 ∧ 0 ≤ y ∧ y < 13
    · simp (disch := omega) only [wpX_nearest, xx_lay, xx_rng, jl_0, jl_1, jl_2, jl_3, jl_4, jl_5, jl_6, jl_7, jl_8, jl_9, jl_12, jl_13, jl_16, jl_24, jl_25, jl_50, jl_168, jl_169, jl_624, jl_625, jl_1000, jI_add, jI_sub, jI_mul, jI_neg, jI_div, ie_mod, jI_leT, jI_leF, jI_ltT, jI_ltF, jI_eqT, jI_eqF, jI_cl, jI_inT, forall_eq, true_implies, false_implies, implies_true, not_true_eq_false, not_false_eq_true, true_and, and_true, b2_0, b2_z]
      refine lj_a (fun n i s => wX_nearest_20 _ (jI l) (jI x) (jI y) (jI c) bd n (jI i) rows drawn passed s inner crn rfr rto par cel opn rst) (fun i => fl work i (fun _ => jI 0)) 0 25 (fl_0 _ _).symm (by omega) (fun n => ?_) (fun n i h0 h1 ih => ?_)
      · simp (disch := omega) only [wX_nearest_20, jl_0, jl_1, jl_2, jl_3, jl_4, jl_5, jl_6, jl_7, jl_8, jl_9, jl_12, jl_13, jl_16, jl_24, jl_25, jl_50, jl_168, jl_169, jl_624, jl_625, jl_1000, jI_add, jI_sub, jI_mul, jI_neg, jI_div, ie_mod, jI_leT, jI_leF, jI_ltT, jI_ltF, jI_eqT, jI_eqF, jI_cl, jI_inT, forall_eq, true_implies, false_implies, implies_true, not_true_eq_false, not_false_eq_true, true_and, and_true, b2_0, b2_z, wd_one]
        refine xx_near57 (x := x) (y := y) hR.1 hR.2.2.1 hl (by omega) (by omega) (fun m work' inner' hm => ?_) (fun j j0 j1 j2 => ?_)
        · simp (disch := omega) only [wpY_nearest, yy_lay, yy_rng, jl_0, jl_1, jl_2, jl_3, jl_4, jl_5, jl_6, jl_7, jl_8, jl_9, jl_12, jl_13, jl_16, jl_24, jl_25, jl_50, jl_168, jl_169, jl_624, jl_625, jl_1000, jI_add, jI_sub, jI_mul, jI_neg, jI_div, ie_mod, jI_leT, jI_leF, jI_ltT, jI_ltF, jI_eqT, jI_eqF, jI_cl, jI_inT, forall_eq, true_implies, false_implies, implies_true, not_true_eq_false, not_false_eq_true, true_and, and_true, b2_0, b2_z]
          refine yy_near25 hR.2.1 hR.2.2.1 hl (by omega) (by omega) (fun m' hm' => ?_)
          exact ⟨congrArg jI (nr_u hm' hm), rl_mk hR⟩
        · by_cases e : j = 2 * y
          · subst e
            rw [up_s]
            refine wd_c (fun i i0 i1 => ex_d.trans (ex_c ?_))
            unfold nB ds
            omega
          · rw [up_n (by omega), fl_r (by omega)]
            refine wd_J0.trans (wd_c (fun i i0 i1 => (ex_F ?_).symm))
            unfold nB ds
            omega
      · simp (disch := omega) only [wX_nearest_20, jl_0, jl_1, jl_2, jl_3, jl_4, jl_5, jl_6, jl_7, jl_8, jl_9, jl_12, jl_13, jl_16, jl_24, jl_25, jl_50, jl_168, jl_169, jl_624, jl_625, jl_1000, jI_add, jI_sub, jI_mul, jI_neg, jI_div, ie_mod, jI_leT, jI_leF, jI_ltT, jI_ltF, jI_eqT, jI_eqF, jI_cl, jI_inT, forall_eq, true_implies, false_implies, implies_true, not_true_eq_false, not_false_eq_true, true_and, and_true, b2_0, b2_z]
        rw [fl_s work (fun _ => jI 0) h0]
        exact ih
    · simp (disch := omega) only [wpX_nearest, wpY_nearest, xx_lay, yy_lay, xx_rngF, yy_rngF, jl_0, jl_1, jl_2, jl_3, jl_4, jl_5, jl_6, jl_7, jl_8, jl_9, jl_12, jl_13, jl_16, jl_24, jl_25, jl_50, jl_168, jl_169, jl_624, jl_625, jl_1000, jI_add, jI_sub, jI_mul, jI_neg, jI_div, ie_mod, jI_leT, jI_leF, jI_ltT, jI_ltF, jI_eqT, jI_eqF, jI_cl, jI_inT, forall_eq, true_implies, false_implies, implies_true, not_true_eq_false, not_false_eq_true, true_and, and_true, b2_0, b2_z]
      exact rl_mk hR
  · simp (disch := omega) only [wpX_nearest, wpY_nearest, xx_layF, yy_layF, jl_0, jl_1, jl_2, jl_3, jl_4, jl_5, jl_6, jl_7, jl_8, jl_9, jl_12, jl_13, jl_16, jl_24, jl_25, jl_50, jl_168, jl_169, jl_624, jl_625, jl_1000, jI_add, jI_sub, jI_mul, jI_neg, jI_div, ie_mod, jI_leT, jI_leF, jI_ltT, jI_ltF, jI_eqT, jI_eqF, jI_cl, jI_inT, forall_eq, true_implies, false_implies, implies_true, not_true_eq_false, not_false_eq_true, true_and, and_true, b2_0, b2_z]
    exact rl_mk hR
end
section
/-! ===== routes ===== -/
def rch (A : Int → Int → Bool) (fi fj : Int) : Nat → Int → Int → Prop
  | 0 => fun i j => i = fi ∧ j = fj
  | d + 1 => fun i j => rch A fi fj d i j ∨ (rch A fi fj d (i - 2) j ∧ A (i - 1) j = true) ∨ (rch A fi fj d (i + 2) j ∧ A (i + 1) j = true) ∨ (rch A fi fj d i (j - 2) ∧ A i (j - 1) = true) ∨ (rch A fi fj d i (j + 2) ∧ A i (j + 1) = true)
theorem rch_up {A : Int → Int → Bool} {fi fj : Int} {d : Nat} {i j : Int} (h : rch A fi fj d i j) : rch A fi fj (d + 1) i j := Or.inl h
theorem rch_le {A : Int → Int → Bool} {fi fj : Int} {d : Nat} {i j : Int} (h : rch A fi fj d i j) : ∀ e : Nat, d ≤ e → rch A fi fj e i j := by
  intro e he
  induction e with
  | zero => have : d = 0 := by omega
            subst this; exact h
  | succ e ih =>
    by_cases z : d = e + 1
    · subst z; exact h
    · exact rch_up (ih (by omega))
theorem rch_p {A : Int → Int → Bool} {fi fj : Int} (hC : Cl A) (hf : fi % 2 = 0 ∧ fj % 2 = 0) (hA : A fi fj = true) : ∀ (d : Nat) (i j : Int), rch A fi fj d i j → i % 2 = 0 ∧ j % 2 = 0 ∧ A i j = true := by
  intro d
  induction d with
  | zero => rintro i j ⟨rfl, rfl⟩; exact ⟨hf.1, hf.2, hA⟩
  | succ d ih =>
    rintro i j (h | ⟨h, e⟩ | ⟨h, e⟩ | ⟨h, e⟩ | ⟨h, e⟩)
    · exact ih i j h
    · have := ih _ _ h
      refine ⟨by omega, by omega, ?_⟩
      have := ((hC _ _ e).1 (by omega)).2
      rw [show i - 1 + 1 = i by omega] at this
      exact this
    · have := ih _ _ h
      refine ⟨by omega, by omega, ?_⟩
      have := ((hC _ _ e).1 (by omega)).1
      rw [show i + 1 - 1 = i by omega] at this
      exact this
    · have := ih _ _ h
      refine ⟨by omega, by omega, ?_⟩
      have := ((hC _ _ e).2 (by omega)).2
      rw [show j - 1 + 1 = j by omega] at this
      exact this
    · have := ih _ _ h
      refine ⟨by omega, by omega, ?_⟩
      have := ((hC _ _ e).2 (by omega)).1
      rw [show j + 1 - 1 = j by omega] at this
      exact this
theorem rch_fix {A : Int → Int → Bool} {fi fj : Int} {d : Nat} (h : ∀ i j, rch A fi fj (d + 1) i j → rch A fi fj d i j) : ∀ (e : Nat) (i j : Int), rch A fi fj e i j → rch A fi fj d i j := by
  intro e
  induction e with
  | zero => intro i j hr; exact rch_le hr d (by omega)
  | succ e ih =>
    rintro i j (hr | ⟨hr, z⟩ | ⟨hr, z⟩ | ⟨hr, z⟩ | ⟨hr, z⟩)
    · exact ih i j hr
    · exact h i j (Or.inr (Or.inl ⟨ih _ _ hr, z⟩))
    · exact h i j (Or.inr (Or.inr (Or.inl ⟨ih _ _ hr, z⟩)))
    · exact h i j (Or.inr (Or.inr (Or.inr (Or.inl ⟨ih _ _ hr, z⟩))))
    · exact h i j (Or.inr (Or.inr (Or.inr (Or.inr ⟨ih _ _ hr, z⟩))))
/-- how many points are reached -/
noncomputable def rcn (A : Int → Int → Bool) (fi fj : Int) (d : Nat) : Int := cn (fun n => ex (rch A fi fj d (2 * (n % 13)) (2 * (n / 13)))) 169
theorem rcn_s {A : Int → Int → Bool} {fi fj : Int} {d : Nat} (hO : SO A) (hp : ∀ (d : Nat) (i j : Int), rch A fi fj d i j → i % 2 = 0 ∧ j % 2 = 0 ∧ A i j = true) (h : ∃ i j, rch A fi fj (d + 1) i j ∧ ¬ rch A fi fj d i j) : rcn A fi fj d + 1 ≤ rcn A fi fj (d + 1) := by
  obtain ⟨i, j, h1, h2⟩ := h
  have h3 := hp _ _ _ h1
  have hin : 0 ≤ i ∧ i < 25 ∧ 0 ≤ j ∧ j < 25 := by
    apply Classical.byContradiction
    intro w
    rw [hO i j w] at h3
    cases h3.2.2
  have : rcn A fi fj d < rcn A fi fj (d + 1) := by
    refine sm_lt 169 (fun n n0 n1 => ?_) ⟨i / 2 + 13 * (j / 2), by omega, by omega, ?_⟩
    · dsimp only
      by_cases z : rch A fi fj d (2 * (n % 13)) (2 * (n / 13))
      · rw [ex_T z, ex_T (rch_up z)]; exact Int.le_refl _
      · rw [ex_F z]; exact (o1_r _).1
    · dsimp only
      rw [show 2 * ((i / 2 + 13 * (j / 2)) % 13) = i by omega, show 2 * ((i / 2 + 13 * (j / 2)) / 13) = j by omega, ex_T h1, ex_F h2]
      decide
  omega
def RT (A : Int → Int → Bool) (fi fj gi gj m : Int) : Prop :=
  (m = -1 ∧ ∀ d : Nat, ¬ rch A fi fj d gi gj) ∨ (∃ d : Nat, m = d ∧ d ≤ 168 ∧ rch A fi fj d gi gj ∧ ∀ e : Nat, e < d → ¬ rch A fi fj e gi gj)
theorem wd_shrN {F : Int → Bool} (hF : ∀ i : Int, 31 ≤ i → F i = false) {k : Int} (h : 0 ≤ k ∧ k < 32) : wd F >>> (jI k &&& 31) = wd (fun i => F (i + k)) := by
  rw [wd_shr F h]
  refine wd_c (fun i _ _ => ?_)
  by_cases e : i + k < 32
  · rw [if_pos e]
  · rw [if_neg e, hF 31 (by omega), hF _ (by omega)]
theorem ex_ab (P : Prop) (b : Bool) : (ex P && b) = ex (P ∧ b = true) := by
  cases b
  · rw [Bool.and_false]; exact (ex_F (fun z => by cases z.2)).symm
  · rw [Bool.and_true]; exact ex_c ⟨fun z => ⟨z, rfl⟩, fun z => z.1⟩
theorem rw_v {A : Int → Int → Bool} (hO : SO A) {fi fj : Int} {d : Nat} {j : Int} (hp : ∀ (d : Nat) (i j : Int), rch A fi fj d i j → i % 2 = 0 ∧ j % 2 = 0 ∧ A i j = true) (p q : Int → Bool)
    (hpp : ∀ i, p i = ex (rch A fi fj d i (j - 2) ∧ A i (j - 1) = true)) (hqq : ∀ i, q i = ex (rch A fi fj d i (j + 2) ∧ A i (j + 1) = true)) :
    (((((wd (fun i => ex (rch A fi fj d i j)) ||| ((((wd (fun i => ex (rch A fi fj d i j)) <<< (jI 1 &&& 31)) ||| (wd (fun i => ex (rch A fi fj d i j)) >>> (jI 1 &&& 31))) &&& wd (fun i => A i j)) <<< (jI 1 &&& 31))) ||| ((((wd (fun i => ex (rch A fi fj d i j)) <<< (jI 1 &&& 31)) ||| (wd (fun i => ex (rch A fi fj d i j)) >>> (jI 1 &&& 31))) &&& wd (fun i => A i j)) >>> (jI 1 &&& 31))) ||| wd p) ||| wd q) &&& wd (fun i => A i j)) &&& 22369621 = wd (fun i => ex (rch A fi fj (d + 1) i j)) := by
  have hs : ∀ i : Int, (i < 0 ∨ 25 ≤ i) → ex (rch A fi fj d i j) = false := fun i hi => ex_F (fun z => by
    have := (hp _ _ _ z).2.2
    rw [hO i j (by omega)] at this
    cases this)
  rw [wd_shlN (fun i hi => hs i (by omega)) (by omega), wd_shrN (fun i hi => hs i (by omega)) (by omega), wd_or, wd_and,
    wd_shlN (fun i hi => by show (_ && A i j) = false; rw [hO i j (by omega), Bool.and_false]) (by omega), wd_shrN (fun i hi => by show (_ && A i j) = false; rw [hO i j (by omega), Bool.and_false]) (by omega), wd_or, wd_or, wd_or, wd_or, wd_and, wd_m5, wd_and]
  refine wd_c (fun i i0 i1 => ?_)
  show ((((((ex (rch A fi fj d i j) || ((ex (rch A fi fj d (i - 1 - 1) j) || ex (rch A fi fj d (i - 1 + 1) j)) && A (i - 1) j)) || ((ex (rch A fi fj d (i + 1 - 1) j) || ex (rch A fi fj d (i + 1 + 1) j)) && A (i + 1) j)) || p i) || q i) && A i j) && decide (i % 2 = 0 ∧ i < 25)) = _
  rw [show i - 1 - 1 = i - 2 by omega, show i - 1 + 1 = i by omega, show i + 1 - 1 = i by omega, show i + 1 + 1 = i + 2 by omega, hpp, hqq, ex_b (A (i - 1) j), ex_b (A (i + 1) j), ex_b (A i j), ex_d, ex_or, ex_or, ex_and, ex_and, ex_or, ex_or, ex_or, ex_or, ex_and, ex_and]
  refine ex_c ⟨?_, ?_⟩
  · rintro ⟨⟨((((h | ⟨h | h, e⟩) | ⟨h | h, e⟩) | h) | h), _⟩, _⟩
    · exact Or.inl h
    · exact Or.inr (Or.inl ⟨h, e⟩)
    · exact Or.inl h
    · exact Or.inl h
    · exact Or.inr (Or.inr (Or.inl ⟨h, e⟩))
    · exact Or.inr (Or.inr (Or.inr (Or.inl h)))
    · exact Or.inr (Or.inr (Or.inr (Or.inr h)))
  · intro h
    have h3 := hp _ _ _ h
    have hin : i < 25 := by
      apply Classical.byContradiction
      intro w
      rw [hO i j (by omega)] at h3
      cases h3.2.2
    refine ⟨⟨?_, h3.2.2⟩, h3.1, hin⟩
    rcases h with h | h | h | h | h
    · exact Or.inl (Or.inl (Or.inl (Or.inl h)))
    · exact Or.inl (Or.inl (Or.inl (Or.inr ⟨Or.inl h.1, h.2⟩)))
    · exact Or.inl (Or.inl (Or.inr ⟨Or.inr h.1, h.2⟩))
    · exact Or.inl (Or.inr h)
    · exact Or.inr h
section
variable {c bd : Int32} {rows drawn passed work inner crn rfr rto par cel opn rst : Nat → Int32}
variable {post : Int32 → SX → Prop}
theorem xx_spr {L : Int → Int → Int → Bool} (hR : RX L rows) (hO : RO L) {l fi fj : Int} {d : Nat} (hl : 0 ≤ l ∧ l < 6) (hp : ∀ (d : Nat) (i j : Int), rch (L l) fi fj d i j → i % 2 = 0 ∧ j % 2 = 0 ∧ L l i j = true)
    (hW : ∀ j : Int, 0 ≤ j → j < 25 → j % 2 = 0 → work j.toNat = wd (fun i => ex (rch (L l) fi fj d i j)))
    (h : ∀ work' inner', (∀ j : Int, 0 ≤ j → j < 25 → j % 2 = 0 → work' j.toNat = wd (fun i => ex (rch (L l) fi fj (d + 1) i j))) → post (b2 (ex (∃ i j, rch (L l) fi fj (d + 1) i j ∧ ¬ rch (L l) fi fj d i j))) (c, bd, rows, drawn, passed, work', inner', crn, rfr, rto, par, cel, opn, rst)) :
    wpX_spread post (c, bd, rows, drawn, passed, work, inner, crn, rfr, rto, par, cel, opn, rst) (jI l) := by
  have hin : ∀ (d : Nat) (i j : Int), rch (L l) fi fj d i j → 0 ≤ i ∧ i < 25 ∧ 0 ≤ j ∧ j < 25 := fun d i j hr => by
    apply Classical.byContradiction
    intro w
    have := (hp _ _ _ hr).2.2
    rw [hO l i j w] at this
    cases this
  simp only [wpX_spread]
  have l4 := lj_a (fun n k s => wX_spread_4 post (jI l) c bd n s.1 (jI (2 * k)) rows drawn passed work s.2 crn rfr rto par cel opn rst) (fun k => (wd (fun i => ex (∃ j : Int, (0 ≤ j ∧ j < 2 * k) ∧ rch (L l) fi fj (d + 1) i j ∧ ¬ rch (L l) fi fj d i j)), we inner 0 k (fun j => wd (fun i => ex (rch (L l) fi fj (d + 1) i j))))) 0 13 (s0 := (jI 0, inner)) ?_ (by omega) (fun n => ?_) (fun n k k0 k1 ih => ?_)
  · exact l4
  · rw [we_0]
    congr 1
    refine wd_J0.trans (wd_c (fun i _ _ => (ex_F ?_).symm))
    rintro ⟨j, hj, _⟩
    omega
  · simp (disch := omega) only [wX_spread_4, jl_0, jl_1, jl_2, jl_3, jl_4, jl_5, jl_6, jl_7, jl_8, jl_9, jl_12, jl_13, jl_16, jl_24, jl_25, jl_50, jl_168, jl_169, jl_624, jl_625, jl_1000, jI_add, jI_sub, jI_mul, jI_neg, jI_div, ie_mod, jI_leT, jI_leF, jI_ltT, jI_ltF, jI_eqT, jI_eqF, jI_cl, jI_inT, forall_eq, true_implies, false_implies, implies_true, not_true_eq_false, not_false_eq_true, true_and, and_true, b2_0, b2_z]
    have l142 := lj_a (fun n k s => wX_spread_142 post (wd (fun i => ex (∃ j : Int, (0 ≤ j ∧ j < 2 * 13) ∧ rch (L l) fi fj (d + 1) i j ∧ ¬ rch (L l) fi fj d i j))) c bd n (jI (2 * k)) rows drawn passed s (we inner 0 13 (fun j => wd (fun i => ex (rch (L l) fi fj (d + 1) i j)))) crn rfr rto par cel opn rst) (fun k => we work 0 k (fun j => wd (fun i => ex (rch (L l) fi fj (d + 1) i j)))) 0 13 (s0 := work) (we_0 _ _ _).symm (by omega) (fun n => ?_) (fun n k k0 k1 ih => ?_)
    · exact l142
    · simp (disch := omega) only [wX_spread_142, jl_0, jl_1, jl_2, jl_3, jl_4, jl_5, jl_6, jl_7, jl_8, jl_9, jl_12, jl_13, jl_16, jl_24, jl_25, jl_50, jl_168, jl_169, jl_624, jl_625, jl_1000, jI_add, jI_sub, jI_mul, jI_neg, jI_div, ie_mod, jI_leT, jI_leF, jI_ltT, jI_ltF, jI_eqT, jI_eqF, jI_cl, jI_inT, forall_eq, true_implies, false_implies, implies_true, not_true_eq_false, not_false_eq_true, true_and, and_true, b2_0, b2_z]
      have h' := h (we work 0 13 (fun j => wd (fun i => ex (rch (L l) fi fj (d + 1) i j)))) (we inner 0 13 (fun j => wd (fun i => ex (rch (L l) fi fj (d + 1) i j)))) (fun j j0 j1 j2 => we_r (f := work) (o := 0) (m := 13) (g := fun j => wd (fun i => ex (rch (L l) fi fj (d + 1) i j))) (z := j) (by omega))
      refine br_c (fun hz => ?_) (fun hz => ?_)
      · rw [wd_eq0] at hz
        rw [ex_F] at h'
        · exact h'
        · rintro ⟨i, j, h1, h2⟩
          have h3 := hin _ _ _ h1
          exact ex_f.mp (hz i (by omega) (by omega)) ⟨j, by omega, h1, h2⟩
      · rw [wd_ne0] at hz
        obtain ⟨i, _, _, hz⟩ := hz
        obtain ⟨j, _, h1, h2⟩ := ex_t.mp hz
        rw [ex_T ⟨i, j, h1, h2⟩] at h'
        exact h'
    · simp (disch := omega) only [wX_spread_142, jl_0, jl_1, jl_2, jl_3, jl_4, jl_5, jl_6, jl_7, jl_8, jl_9, jl_12, jl_13, jl_16, jl_24, jl_25, jl_50, jl_168, jl_169, jl_624, jl_625, jl_1000, jI_add, jI_sub, jI_mul, jI_neg, jI_div, ie_mod, jI_leT, jI_leF, jI_ltT, jI_ltF, jI_eqT, jI_eqF, jI_cl, jI_inT, forall_eq, true_implies, false_implies, implies_true, not_true_eq_false, not_false_eq_true, true_and, and_true, b2_0, b2_z, we_r]
      rw [show 2 * k + 2 = 2 * (k + 1) by omega]
      have := we_S work (o := 0) (m := k) (fun j => wd (fun i => ex (rch (L l) fi fj (d + 1) i j))) (x := wd (fun i => ex (rch (L l) fi fj (d + 1) i (2 * k)))) (by omega) (by rw [Int.zero_add])
      rw [Int.zero_add] at this
      rw [this]
      exact ih
  · have hS := we_S inner (o := 0) (m := k) (fun j => wd (fun i => ex (rch (L l) fi fj (d + 1) i j))) (x := wd (fun i => ex (rch (L l) fi fj (d + 1) i (2 * k)))) (by omega) (by rw [Int.zero_add])
    rw [Int.zero_add] at hS
    have hnews : wd (fun i => ex (∃ j : Int, (0 ≤ j ∧ j < 2 * k) ∧ rch (L l) fi fj (d + 1) i j ∧ ¬ rch (L l) fi fj d i j)) ||| (wd (fun i => ex (rch (L l) fi fj (d + 1) i (2 * k))) ^^^ wd (fun i => ex (rch (L l) fi fj d i (2 * k)))) = wd (fun i => ex (∃ j : Int, (0 ≤ j ∧ j < 2 * (k + 1)) ∧ rch (L l) fi fj (d + 1) i j ∧ ¬ rch (L l) fi fj d i j)) := by
      rw [wd_xor, wd_or]
      refine wd_c (fun i i0 i1 => ?_)
      have ex1 : (ex (rch (L l) fi fj (d + 1) i (2 * k)) ^^ ex (rch (L l) fi fj d i (2 * k))) = ex (rch (L l) fi fj (d + 1) i (2 * k) ∧ ¬ rch (L l) fi fj d i (2 * k)) := by
        by_cases z : rch (L l) fi fj d i (2 * k)
        · rw [ex_T z, ex_T (rch_up z), ex_F (fun w => w.2 z)]; rfl
        · rw [ex_F z, Bool.xor_false]
          exact ex_c ⟨fun w => ⟨w, z⟩, fun w => w.1⟩
      rw [ex1, ex_or]
      refine ex_c ⟨?_, ?_⟩
      · rintro (⟨j, hj, hh⟩ | hh)
        · exact ⟨j, by omega, hh⟩
        · exact ⟨2 * k, by omega, hh⟩
      · rintro ⟨j, hj, hh⟩
        by_cases z : j < 2 * k
        · exact Or.inl ⟨j, by omega, hh⟩
        · have h3 := (hp _ _ _ hh.1).2.1
          have : j = 2 * k := by omega
          subst this
          exact Or.inr hh
    have emp : wd (fun _ => false) = jI 0 := wd_J0.symm
    have wj0 : ∀ w : Int32, w ||| jI 0 = w := fun w => by
      apply b_ext; intro i hi; rw [b_or, show bt (jI 0) i = false from b_0 i, Bool.or_false]
    dsimp only at ih ⊢
    by_cases z0 : k = 0
    · have v := rw_v (hO l) (fi := fi) (fj := fj) (d := d) (j := 2 * k) hp (fun _ => false) (fun i => ex (rch (L l) fi fj d i (2 * k + 2)) && L l i (2 * k + 1)) (fun i => (ex_F (fun w => by have := hin _ _ _ w.1; omega)).symm) (fun i => ex_ab _ _)
      rw [emp, wj0] at v
      simp (disch := omega) only [wX_spread_4, wX_spread_76, wX_spread_104, jl_0, jl_1, jl_2, jl_3, jl_4, jl_5, jl_6, jl_7, jl_8, jl_9, jl_12, jl_13, jl_16, jl_24, jl_25, jl_50, jl_168, jl_169, jl_624, jl_625, jl_1000, jI_add, jI_sub, jI_mul, jI_neg, jI_div, ie_mod, jI_leT, jI_leF, jI_ltT, jI_ltF, jI_eqT, jI_eqF, jI_cl, jI_inT, forall_eq, true_implies, false_implies, implies_true, not_true_eq_false, not_false_eq_true, true_and, and_true, b2_0, b2_z, hW, xx_row hR hO, wd_and (fun i => ex (rch (L l) fi fj d i (2 * k + 2))), up_s]
      rw [v, hS, hnews, show 2 * k + 2 = 2 * (k + 1) by omega]
      exact ih
    · by_cases z24 : k = 12
      · have v := rw_v (hO l) (fi := fi) (fj := fj) (d := d) (j := 2 * k) hp (fun i => ex (rch (L l) fi fj d i (2 * k - 2)) && L l i (2 * k - 1)) (fun _ => false) (fun i => ex_ab _ _) (fun i => (ex_F (fun w => by have := hin _ _ _ w.1; omega)).symm)
        rw [emp, wj0] at v
        simp (disch := omega) only [wX_spread_4, wX_spread_76, wX_spread_104, jl_0, jl_1, jl_2, jl_3, jl_4, jl_5, jl_6, jl_7, jl_8, jl_9, jl_12, jl_13, jl_16, jl_24, jl_25, jl_50, jl_168, jl_169, jl_624, jl_625, jl_1000, jI_add, jI_sub, jI_mul, jI_neg, jI_div, ie_mod, jI_leT, jI_leF, jI_ltT, jI_ltF, jI_eqT, jI_eqF, jI_cl, jI_inT, forall_eq, true_implies, false_implies, implies_true, not_true_eq_false, not_false_eq_true, true_and, and_true, b2_0, b2_z, hW, xx_row hR hO, wd_and (fun i => ex (rch (L l) fi fj d i (2 * k - 2))), up_s]
        rw [v, hS, hnews, show 2 * k + 2 = 2 * (k + 1) by omega]
        exact ih
      · have v := rw_v (hO l) (fi := fi) (fj := fj) (d := d) (j := 2 * k) hp (fun i => ex (rch (L l) fi fj d i (2 * k - 2)) && L l i (2 * k - 1)) (fun i => ex (rch (L l) fi fj d i (2 * k + 2)) && L l i (2 * k + 1)) (fun i => ex_ab _ _) (fun i => ex_ab _ _)
        simp (disch := omega) only [wX_spread_4, wX_spread_76, wX_spread_104, jl_0, jl_1, jl_2, jl_3, jl_4, jl_5, jl_6, jl_7, jl_8, jl_9, jl_12, jl_13, jl_16, jl_24, jl_25, jl_50, jl_168, jl_169, jl_624, jl_625, jl_1000, jI_add, jI_sub, jI_mul, jI_neg, jI_div, ie_mod, jI_leT, jI_leF, jI_ltT, jI_ltF, jI_eqT, jI_eqF, jI_cl, jI_inT, forall_eq, true_implies, false_implies, implies_true, not_true_eq_false, not_false_eq_true, true_and, and_true, b2_0, b2_z, hW, xx_row hR hO, wd_and (fun i => ex (rch (L l) fi fj d i (2 * k + 2))), wd_and (fun i => ex (rch (L l) fi fj d i (2 * k - 2))), up_s]
        rw [v, hS, hnews, show 2 * k + 2 = 2 * (k + 1) by omega]
        exact ih
theorem xx_rt139 {L : Int → Int → Int → Bool} (hR : RX L rows) (hO : RO L) {l fi fj gi gj : Int} (hl : 0 ≤ l ∧ l < 6) (hg : 0 ≤ gi ∧ gi < 25 ∧ 0 ≤ gj ∧ gj < 25 ∧ gj % 2 = 0) (hp : ∀ (d : Nat) (i j : Int), rch (L l) fi fj d i j → i % 2 = 0 ∧ j % 2 = 0 ∧ L l i j = true)
    (h : ∀ m work' inner', RT (L l) fi fj gi gj m → post (jI m) (c, bd, rows, drawn, passed, work', inner', crn, rfr, rto, par, cel, opn, rst)) :
    ∀ (n d : Nat) (work inner : Nat → Int32), 169 ≤ n + d → (d : Int) + 1 ≤ rcn (L l) fi fj d → (∀ e : Nat, e < d → ¬ rch (L l) fi fj e gi gj) →
      (∀ j : Int, 0 ≤ j → j < 25 → j % 2 = 0 → work j.toNat = wd (fun i => ex (rch (L l) fi fj d i j))) →
      wX_route_139 post (jI l) (wd (fun i => decide (i = gi))) (jI gj) (n + 2) (jI d) (jI 1) c bd rows drawn passed work inner crn rfr rto par cel opn rst := by
  have gb : ∀ d : Nat, (wd (fun i => ex (rch (L l) fi fj d i gj)) &&& wd (fun i => decide (i = gi)) = jI 0) ↔ ¬ rch (L l) fi fj d gi gj := by
    intro d
    rw [wd_and, wd_eq0]
    constructor
    · intro hz hr
      have := hz gi (by omega) (by omega)
      rw [ex_T hr, decide_eq_true rfl] at this
      cases this
    · intro hr i i0 i1
      by_cases z : i = gi
      · rw [z, ex_F hr]; rfl
      · rw [decide_eq_false z, Bool.and_false]
  intro n
  induction n with
  | zero =>
    intro d work inner hn hc hno hW
    have hm := cn_max (fun n => ex (rch (L l) fi fj d (2 * (n % 13)) (2 * (n / 13)))) 169
    unfold rcn at hc
    omega
  | succ n ih =>
    intro d work inner hn hc hno hW
    have hm : rcn (L l) fi fj d ≤ 169 := cn_max (fun n => ex (rch (L l) fi fj d (2 * (n % 13)) (2 * (n / 13)))) 169
    rw [wX_route_139]
    simp (disch := omega) only [jl_0, jl_1, jl_2, jl_3, jl_4, jl_5, jl_6, jl_7, jl_8, jl_9, jl_12, jl_13, jl_16, jl_24, jl_25, jl_50, jl_168, jl_169, jl_624, jl_625, jl_1000, jI_add, jI_sub, jI_mul, jI_neg, jI_div, ie_mod, jI_leT, jI_leF, jI_ltT, jI_ltF, jI_eqT, jI_eqF, jI_cl, jI_inT, forall_eq, true_implies, false_implies, implies_true, not_true_eq_false, not_false_eq_true, true_and, and_true, b2_0, b2_z, hW, gb]
    refine br_c (fun hr => ?_) (fun hr => ?_)
    · refine xx_spr hR hO hl hp hW (fun work' inner' hW' => ?_)
      dsimp only
      have hno' : ∀ e : Nat, e < d + 1 → ¬ rch (L l) fi fj e gi gj := fun e he hre => hr (rch_le hre d (by omega))
      by_cases nw : ∃ i j, rch (L l) fi fj (d + 1) i j ∧ ¬ rch (L l) fi fj d i j
      · rw [ex_T nw]
        have h2 := rcn_s (hO l) hp nw
        have := ih (d + 1) work' inner' (by omega) (by omega) hno' hW'
        rw [show (((d + 1 : Nat) : Int)) = (d : Int) + 1 by omega] at this
        exact this
      · rw [ex_F nw]
        rw [wX_route_139]
        simp (disch := omega) only [wX_route_170, jl_0, jl_1, jl_2, jl_3, jl_4, jl_5, jl_6, jl_7, jl_8, jl_9, jl_12, jl_13, jl_16, jl_24, jl_25, jl_50, jl_168, jl_169, jl_624, jl_625, jl_1000, jI_add, jI_sub, jI_mul, jI_neg, jI_div, ie_mod, jI_leT, jI_leF, jI_ltT, jI_ltF, jI_eqT, jI_eqF, jI_cl, jI_inT, forall_eq, true_implies, false_implies, implies_true, not_true_eq_false, not_false_eq_true, true_and, and_true, b2_0, b2_z, b2_F]
        refine h (-1) _ _ (Or.inl ⟨rfl, fun e hre => hr (rch_fix (fun i j h1 => ?_) e gi gj hre)⟩)
        apply Classical.byContradiction
        intro h2
        exact nw ⟨i, j, h1, h2⟩
    · simp (disch := omega) only [wX_route_170, jl_0, jl_1, jl_2, jl_3, jl_4, jl_5, jl_6, jl_7, jl_8, jl_9, jl_12, jl_13, jl_16, jl_24, jl_25, jl_50, jl_168, jl_169, jl_624, jl_625, jl_1000, jI_add, jI_sub, jI_mul, jI_neg, jI_div, ie_mod, jI_leT, jI_leF, jI_ltT, jI_ltF, jI_eqT, jI_eqF, jI_cl, jI_inT, forall_eq, true_implies, false_implies, implies_true, not_true_eq_false, not_false_eq_true, true_and, and_true, b2_0, b2_z]
      exact h d _ _ (Or.inr ⟨d, rfl, by omega, Classical.not_not.mp hr, hno⟩)
end
end
section
theorem nr_0 : (narrow .boolean (.int (jI 0)) = .int (jI 0)) = True := eq_true rfl
theorem nr_1 : (narrow .boolean (.int (jI 1)) = .int (jI 1)) = True := eq_true rfl
def st1 (b : Bool) (v e : Int) : Int := if b = true ∧ v < e then v else e
theorem st1_T {v e : Int} (h : v < e) : st1 true v e = v := if_pos ⟨rfl, h⟩
theorem st1_n {v e : Int} (h : e ≤ v) (b : Bool) : st1 b v e = e := if_neg (by omega)
theorem st1_F (v e : Int) : st1 false v e = e := if_neg (by simp)
theorem st1_le (b : Bool) (v e : Int) : st1 b v e ≤ e := by
  unfold st1; split <;> omega
theorem st1_c (b : Bool) (v e : Int) : st1 b v e = e ∨ (b = true ∧ v < e ∧ st1 b v e = v) := by
  by_cases h : b = true ∧ v < e
  · exact Or.inr ⟨h.1, h.2, if_pos h⟩
  · exact Or.inl (if_neg h)
def im1 (A : Int → Int → Bool) (lb : Int → Int) (n : Int) : Int := st1 (A (2 * (n % 13) - 1) (2 * (n / 13))) (lb (n - 1) + 1) (lb n)
def im2 (A : Int → Int → Bool) (lb : Int → Int) (n : Int) : Int := st1 (A (2 * (n % 13) + 1) (2 * (n / 13))) (lb (n + 1) + 1) (im1 A lb n)
def im3 (A : Int → Int → Bool) (lb : Int → Int) (n : Int) : Int := st1 (A (2 * (n % 13)) (2 * (n / 13) - 1)) (lb (n - 13) + 1) (im2 A lb n)
def im4 (A : Int → Int → Bool) (lb : Int → Int) (n : Int) : Int := st1 (A (2 * (n % 13)) (2 * (n / 13) + 1)) (lb (n + 13) + 1) (im3 A lb n)
theorem im_le (A : Int → Int → Bool) (lb : Int → Int) (n : Int) : im4 A lb n ≤ lb n := by
  have h1 := st1_le (A (2 * (n % 13) - 1) (2 * (n / 13))) (lb (n - 1) + 1) (lb n)
  have h2 := st1_le (A (2 * (n % 13) + 1) (2 * (n / 13))) (lb (n + 1) + 1) (im1 A lb n)
  have h3 := st1_le (A (2 * (n % 13)) (2 * (n / 13) - 1)) (lb (n - 13) + 1) (im2 A lb n)
  have h4 := st1_le (A (2 * (n % 13)) (2 * (n / 13) + 1)) (lb (n + 13) + 1) (im3 A lb n)
  unfold im4 at *
  unfold im3 at *
  unfold im2 at *
  unfold im1 at *
  omega
section
variable {cy : Int32} {lys fil mad st px py lab : Nat → Int32}
variable {post : Int32 → SY → Prop}
theorem yy_n199 {lb : Int → Int} {n e : Int} (hn : 0 ≤ n ∧ n < 169) (he : -10 ≤ e ∧ e ≤ 5000) (hl : lab n.toNat = jI (lb n)) (hb : 0 ≤ lb n ∧ lb n ≤ 1000) :
    wY_nearer_199 post (jI n) (jI e) cy lys fil mad st px py lab = post (b2 (decide (e < lb n))) (cy, lys, fil, mad, st, px, py, upd lab n.toNat (jI e)) := by
  by_cases h : lb n ≤ e
  · simp (disch := omega) only [wY_nearer_199, wY_nearer_215, jl_0, jl_1, jl_2, jl_3, jl_4, jl_5, jl_6, jl_7, jl_8, jl_9, jl_12, jl_13, jl_16, jl_24, jl_25, jl_50, jl_168, jl_169, jl_624, jl_625, jl_1000, jI_add, jI_sub, jI_mul, jI_neg, jI_div, ie_mod, jI_leT, jI_leF, jI_ltT, jI_ltF, jI_eqT, jI_eqF, jI_cl, jI_inT, forall_eq, true_implies, false_implies, implies_true, not_true_eq_false, not_false_eq_true, true_and, and_true, b2_0, b2_z, hl, nr_0, dc_F, b2_F]
  · simp (disch := omega) only [wY_nearer_199, wY_nearer_215, jl_0, jl_1, jl_2, jl_3, jl_4, jl_5, jl_6, jl_7, jl_8, jl_9, jl_12, jl_13, jl_16, jl_24, jl_25, jl_50, jl_168, jl_169, jl_624, jl_625, jl_1000, jI_add, jI_sub, jI_mul, jI_neg, jI_div, ie_mod, jI_leT, jI_leF, jI_ltT, jI_ltF, jI_eqT, jI_eqF, jI_cl, jI_inT, forall_eq, true_implies, false_implies, implies_true, not_true_eq_false, not_false_eq_true, true_and, and_true, b2_0, b2_z, hl, nr_1, dc_T, b2_T]
theorem yy_nearer {L : Int → Int → Int → Bool} (hY : RY L lys) (hO : RO L) {l : Int} (hl : 0 ≤ l ∧ l < 6) {lb : Int → Int} (hb : ∀ q : Int, 0 ≤ q → q < 169 → lab q.toNat = jI (lb q) ∧ 0 ≤ lb q ∧ lb q ≤ 1000) {n : Int} (hn : 0 ≤ n ∧ n < 169) :
    wpY_nearer post (cy, lys, fil, mad, st, px, py, lab) (jI l) (jI n) = post (b2 (decide (im4 (L l) lb n < lb n))) (cy, lys, fil, mad, st, px, py, upd lab n.toNat (jI (im4 (L l) lb n))) := by
  have hin : ∀ i j : Int, L l i j = true → 0 ≤ i ∧ i < 25 ∧ 0 ≤ j ∧ j < 25 := fun i j h => by
    apply Classical.byContradiction
    intro w
    rw [hO l i j w] at h
    cases h
  obtain ⟨h1, h2, h3⟩ := hb n hn.1 hn.2
  have e4 : ∀ e : Int, 0 ≤ e → e ≤ 1000 → wY_nearer_153 post (jI l) (jI n) (jI (n % 13)) (jI (n / 13)) (jI e) cy lys fil mad st px py lab = wY_nearer_199 post (jI n) (jI (st1 (L l (2 * (n % 13)) (2 * (n / 13) + 1)) (lb (n + 13) + 1) e)) cy lys fil mad st px py lab := by
    intro e e0 e1
    simp (disch := omega) only [wY_nearer_153, jl_0, jl_1, jl_2, jl_3, jl_4, jl_5, jl_6, jl_7, jl_8, jl_9, jl_12, jl_13, jl_16, jl_24, jl_25, jl_50, jl_168, jl_169, jl_624, jl_625, jl_1000, jI_add, jI_sub, jI_mul, jI_neg, jI_div, ie_mod, jI_leT, jI_leF, jI_ltT, jI_ltF, jI_eqT, jI_eqF, jI_cl, jI_inT, forall_eq, true_implies, false_implies, implies_true, not_true_eq_false, not_false_eq_true, true_and, and_true, b2_0, b2_z, yy_in hY hO]
    cases hA : L l (2 * (n % 13)) (2 * (n / 13) + 1) with
    | false => simp only [true_implies, not_true_eq_false, false_implies, and_true, st1_F]
    | true =>
      have := hin _ _ hA
      obtain ⟨g1, g2, g3⟩ := hb (n + 13) (by omega) (by omega)
      by_cases c : e ≤ lb (n + 13) + 1
      · simp (disch := omega) only [reduceCtorEq, jl_0, jl_1, jl_2, jl_3, jl_4, jl_5, jl_6, jl_7, jl_8, jl_9, jl_12, jl_13, jl_16, jl_24, jl_25, jl_50, jl_168, jl_169, jl_624, jl_625, jl_1000, jI_add, jI_sub, jI_mul, jI_neg, jI_div, ie_mod, jI_leT, jI_leF, jI_ltT, jI_ltF, jI_eqT, jI_eqF, jI_cl, jI_inT, forall_eq, true_implies, false_implies, implies_true, not_true_eq_false, not_false_eq_true, true_and, and_true, b2_0, b2_z, g1, st1_n]
      · simp (disch := omega) only [reduceCtorEq, jl_0, jl_1, jl_2, jl_3, jl_4, jl_5, jl_6, jl_7, jl_8, jl_9, jl_12, jl_13, jl_16, jl_24, jl_25, jl_50, jl_168, jl_169, jl_624, jl_625, jl_1000, jI_add, jI_sub, jI_mul, jI_neg, jI_div, ie_mod, jI_leT, jI_leF, jI_ltT, jI_ltF, jI_eqT, jI_eqF, jI_cl, jI_inT, forall_eq, true_implies, false_implies, implies_true, not_true_eq_false, not_false_eq_true, true_and, and_true, b2_0, b2_z, g1, st1_T]
  have e3 : ∀ e : Int, 0 ≤ e → e ≤ 1000 → wY_nearer_107 post (jI l) (jI n) (jI (n % 13)) (jI (n / 13)) (jI e) cy lys fil mad st px py lab = wY_nearer_153 post (jI l) (jI n) (jI (n % 13)) (jI (n / 13)) (jI (st1 (L l (2 * (n % 13)) (2 * (n / 13) - 1)) (lb (n - 13) + 1) e)) cy lys fil mad st px py lab := by
    intro e e0 e1
    simp (disch := omega) only [wY_nearer_107, jl_0, jl_1, jl_2, jl_3, jl_4, jl_5, jl_6, jl_7, jl_8, jl_9, jl_12, jl_13, jl_16, jl_24, jl_25, jl_50, jl_168, jl_169, jl_624, jl_625, jl_1000, jI_add, jI_sub, jI_mul, jI_neg, jI_div, ie_mod, jI_leT, jI_leF, jI_ltT, jI_ltF, jI_eqT, jI_eqF, jI_cl, jI_inT, forall_eq, true_implies, false_implies, implies_true, not_true_eq_false, not_false_eq_true, true_and, and_true, b2_0, b2_z, yy_in hY hO]
    cases hA : L l (2 * (n % 13)) (2 * (n / 13) - 1) with
    | false => simp only [true_implies, not_true_eq_false, false_implies, and_true, st1_F]
    | true =>
      have := hin _ _ hA
      obtain ⟨g1, g2, g3⟩ := hb (n - 13) (by omega) (by omega)
      by_cases c : e ≤ lb (n - 13) + 1
      · simp (disch := omega) only [reduceCtorEq, jl_0, jl_1, jl_2, jl_3, jl_4, jl_5, jl_6, jl_7, jl_8, jl_9, jl_12, jl_13, jl_16, jl_24, jl_25, jl_50, jl_168, jl_169, jl_624, jl_625, jl_1000, jI_add, jI_sub, jI_mul, jI_neg, jI_div, ie_mod, jI_leT, jI_leF, jI_ltT, jI_ltF, jI_eqT, jI_eqF, jI_cl, jI_inT, forall_eq, true_implies, false_implies, implies_true, not_true_eq_false, not_false_eq_true, true_and, and_true, b2_0, b2_z, g1, st1_n]
      · simp (disch := omega) only [reduceCtorEq, jl_0, jl_1, jl_2, jl_3, jl_4, jl_5, jl_6, jl_7, jl_8, jl_9, jl_12, jl_13, jl_16, jl_24, jl_25, jl_50, jl_168, jl_169, jl_624, jl_625, jl_1000, jI_add, jI_sub, jI_mul, jI_neg, jI_div, ie_mod, jI_leT, jI_leF, jI_ltT, jI_ltF, jI_eqT, jI_eqF, jI_cl, jI_inT, forall_eq, true_implies, false_implies, implies_true, not_true_eq_false, not_false_eq_true, true_and, and_true, b2_0, b2_z, g1, st1_T]
  have e2 : ∀ e : Int, 0 ≤ e → e ≤ 1000 → wY_nearer_63 post (jI l) (jI n) (jI (n % 13)) (jI (n / 13)) (jI e) cy lys fil mad st px py lab = wY_nearer_107 post (jI l) (jI n) (jI (n % 13)) (jI (n / 13)) (jI (st1 (L l (2 * (n % 13) + 1) (2 * (n / 13))) (lb (n + 1) + 1) e)) cy lys fil mad st px py lab := by
    intro e e0 e1
    simp (disch := omega) only [wY_nearer_63, jl_0, jl_1, jl_2, jl_3, jl_4, jl_5, jl_6, jl_7, jl_8, jl_9, jl_12, jl_13, jl_16, jl_24, jl_25, jl_50, jl_168, jl_169, jl_624, jl_625, jl_1000, jI_add, jI_sub, jI_mul, jI_neg, jI_div, ie_mod, jI_leT, jI_leF, jI_ltT, jI_ltF, jI_eqT, jI_eqF, jI_cl, jI_inT, forall_eq, true_implies, false_implies, implies_true, not_true_eq_false, not_false_eq_true, true_and, and_true, b2_0, b2_z, yy_in hY hO]
    cases hA : L l (2 * (n % 13) + 1) (2 * (n / 13)) with
    | false => simp only [true_implies, not_true_eq_false, false_implies, and_true, st1_F]
    | true =>
      have := hin _ _ hA
      obtain ⟨g1, g2, g3⟩ := hb (n + 1) (by omega) (by omega)
      by_cases c : e ≤ lb (n + 1) + 1
      · simp (disch := omega) only [reduceCtorEq, jl_0, jl_1, jl_2, jl_3, jl_4, jl_5, jl_6, jl_7, jl_8, jl_9, jl_12, jl_13, jl_16, jl_24, jl_25, jl_50, jl_168, jl_169, jl_624, jl_625, jl_1000, jI_add, jI_sub, jI_mul, jI_neg, jI_div, ie_mod, jI_leT, jI_leF, jI_ltT, jI_ltF, jI_eqT, jI_eqF, jI_cl, jI_inT, forall_eq, true_implies, false_implies, implies_true, not_true_eq_false, not_false_eq_true, true_and, and_true, b2_0, b2_z, g1, st1_n]
      · simp (disch := omega) only [reduceCtorEq, jl_0, jl_1, jl_2, jl_3, jl_4, jl_5, jl_6, jl_7, jl_8, jl_9, jl_12, jl_13, jl_16, jl_24, jl_25, jl_50, jl_168, jl_169, jl_624, jl_625, jl_1000, jI_add, jI_sub, jI_mul, jI_neg, jI_div, ie_mod, jI_leT, jI_leF, jI_ltT, jI_ltF, jI_eqT, jI_eqF, jI_cl, jI_inT, forall_eq, true_implies, false_implies, implies_true, not_true_eq_false, not_false_eq_true, true_and, and_true, b2_0, b2_z, g1, st1_T]
  have e1 : wpY_nearer post (cy, lys, fil, mad, st, px, py, lab) (jI l) (jI n) = wY_nearer_63 post (jI l) (jI n) (jI (n % 13)) (jI (n / 13)) (jI (im1 (L l) lb n)) cy lys fil mad st px py lab := by
    unfold im1
    simp (disch := omega) only [wpY_nearer, jl_0, jl_1, jl_2, jl_3, jl_4, jl_5, jl_6, jl_7, jl_8, jl_9, jl_12, jl_13, jl_16, jl_24, jl_25, jl_50, jl_168, jl_169, jl_624, jl_625, jl_1000, jI_add, jI_sub, jI_mul, jI_neg, jI_div, ie_mod, jI_leT, jI_leF, jI_ltT, jI_ltF, jI_eqT, jI_eqF, jI_cl, jI_inT, forall_eq, true_implies, false_implies, implies_true, not_true_eq_false, not_false_eq_true, true_and, and_true, b2_0, b2_z, yy_in hY hO, h1]
    cases hA : L l (2 * (n % 13) - 1) (2 * (n / 13)) with
    | false => simp only [true_implies, not_true_eq_false, false_implies, and_true, st1_F]
    | true =>
      have := hin _ _ hA
      obtain ⟨g1, g2, g3⟩ := hb (n - 1) (by omega) (by omega)
      by_cases c : lb n ≤ lb (n - 1) + 1
      · simp (disch := omega) only [reduceCtorEq, jl_0, jl_1, jl_2, jl_3, jl_4, jl_5, jl_6, jl_7, jl_8, jl_9, jl_12, jl_13, jl_16, jl_24, jl_25, jl_50, jl_168, jl_169, jl_624, jl_625, jl_1000, jI_add, jI_sub, jI_mul, jI_neg, jI_div, ie_mod, jI_leT, jI_leF, jI_ltT, jI_ltF, jI_eqT, jI_eqF, jI_cl, jI_inT, forall_eq, true_implies, false_implies, implies_true, not_true_eq_false, not_false_eq_true, true_and, and_true, b2_0, b2_z, g1, st1_n]
      · simp (disch := omega) only [reduceCtorEq, jl_0, jl_1, jl_2, jl_3, jl_4, jl_5, jl_6, jl_7, jl_8, jl_9, jl_12, jl_13, jl_16, jl_24, jl_25, jl_50, jl_168, jl_169, jl_624, jl_625, jl_1000, jI_add, jI_sub, jI_mul, jI_neg, jI_div, ie_mod, jI_leT, jI_leF, jI_ltT, jI_ltF, jI_eqT, jI_eqF, jI_cl, jI_inT, forall_eq, true_implies, false_implies, implies_true, not_true_eq_false, not_false_eq_true, true_and, and_true, b2_0, b2_z, g1, st1_T]
  have b0 : ∀ (b : Bool) (v e : Int), (b = true → 0 ≤ v) → 0 ≤ e → 0 ≤ st1 b v e := by
    intro b v e hv he
    rcases st1_c b v e with h | ⟨h, _, h'⟩
    · rw [h]; exact he
    · rw [h']; exact hv h
  have v1 : L l (2 * (n % 13) - 1) (2 * (n / 13)) = true → 0 ≤ lb (n - 1) + 1 := fun hA => by
    have := hin _ _ hA
    have := (hb (n - 1) (by omega) (by omega)).2.1
    omega
  have v2 : L l (2 * (n % 13) + 1) (2 * (n / 13)) = true → 0 ≤ lb (n + 1) + 1 := fun hA => by
    have := hin _ _ hA
    have := (hb (n + 1) (by omega) (by omega)).2.1
    omega
  have v3 : L l (2 * (n % 13)) (2 * (n / 13) - 1) = true → 0 ≤ lb (n - 13) + 1 := fun hA => by
    have := hin _ _ hA
    have := (hb (n - 13) (by omega) (by omega)).2.1
    omega
  have v4 : L l (2 * (n % 13)) (2 * (n / 13) + 1) = true → 0 ≤ lb (n + 13) + 1 := fun hA => by
    have := hin _ _ hA
    have := (hb (n + 13) (by omega) (by omega)).2.1
    omega
  have i1 : 0 ≤ im1 (L l) lb n := b0 _ _ _ v1 h2
  have i2 : 0 ≤ im2 (L l) lb n := b0 _ _ _ v2 i1
  have i3 : 0 ≤ im3 (L l) lb n := b0 _ _ _ v3 i2
  have i4 : 0 ≤ im4 (L l) lb n := b0 _ _ _ v4 i3
  have j1 : im1 (L l) lb n ≤ lb n := st1_le _ _ _
  have j2 : im2 (L l) lb n ≤ im1 (L l) lb n := st1_le _ _ _
  have j3 : im3 (L l) lb n ≤ im2 (L l) lb n := st1_le _ _ _
  have j4 : im4 (L l) lb n ≤ im3 (L l) lb n := st1_le _ _ _
  rw [e1, e2 _ i1 (by omega)]
  show wY_nearer_107 post (jI l) (jI n) (jI (n % 13)) (jI (n / 13)) (jI (im2 (L l) lb n)) cy lys fil mad st px py lab = _
  rw [e3 _ i2 (by omega)]
  show wY_nearer_153 post (jI l) (jI n) (jI (n % 13)) (jI (n / 13)) (jI (im3 (L l) lb n)) cy lys fil mad st px py lab = _
  rw [e4 _ i3 (by omega)]
  show wY_nearer_199 post (jI n) (jI (im4 (L l) lb n)) cy lys fil mad st px py lab = _
  exact yy_n199 hn (by omega) h1 ⟨h2, h3⟩
end
/-! ===== labels ===== -/
def LI (A : Int → Int → Bool) (fr : Int) (lb : Int → Int) (lab : Nat → Int32) : Prop :=
  (∀ q : Int, 0 ≤ q → q < 169 → lab q.toNat = jI (lb q) ∧ 0 ≤ lb q ∧ lb q ≤ 1000) ∧ lb fr = 0 ∧
  ∀ q : Int, 0 ≤ q → q < 169 → lb q < 1000 → rch A (2 * (fr % 13)) (2 * (fr / 13)) (lb q).toNat (2 * (q % 13)) (2 * (q / 13))
theorem li_s {A : Int → Int → Bool} (hO : SO A) {fr : Int} {lb : Int → Int} {lab : Nat → Int32} (h : LI A fr lb lab) (hfr : 0 ≤ fr ∧ fr < 169) {n : Int} (hn : 0 ≤ n ∧ n < 169) :
    LI A fr (upf lb n (im4 A lb n)) (upd lab n.toNat (jI (im4 A lb n))) := by
  obtain ⟨h1, h2, h3⟩ := h
  have hin : ∀ i j : Int, A i j = true → 0 ≤ i ∧ i < 25 ∧ 0 ≤ j ∧ j < 25 := fun i j h => by
    apply Classical.byContradiction
    intro w
    rw [hO i j w] at h
    cases h
  obtain ⟨g1, g2, g3⟩ := h1 n hn.1 hn.2
  have P : ∀ e : Int, 0 ≤ e → (e < 1000 → rch A (2 * (fr % 13)) (2 * (fr / 13)) e.toNat (2 * (n % 13)) (2 * (n / 13))) →
      ∀ (b : Bool) (v : Int), (b = true → 0 ≤ v ∧ (v < 1000 → rch A (2 * (fr % 13)) (2 * (fr / 13)) v.toNat (2 * (n % 13)) (2 * (n / 13)))) →
      0 ≤ st1 b v e ∧ (st1 b v e < 1000 → rch A (2 * (fr % 13)) (2 * (fr / 13)) (st1 b v e).toNat (2 * (n % 13)) (2 * (n / 13))) := by
    intro e e0 he b v hv
    rcases st1_c b v e with z | ⟨z, _, z'⟩
    · rw [z]; exact ⟨e0, he⟩
    · rw [z']; exact hv z
  have s1 := P (lb n) g2 (h3 n hn.1 hn.2) (A (2 * (n % 13) - 1) (2 * (n / 13))) (lb (n - 1) + 1) (fun hA => by
    have hi := hin _ _ hA
    obtain ⟨k1, k2, k3⟩ := h1 (n - 1) (by omega) (by omega)
    refine ⟨by omega, fun hlt => ?_⟩
    have hr := h3 (n - 1) (by omega) (by omega) (by omega)
    rw [show (lb (n - 1) + 1).toNat = (lb (n - 1)).toNat + 1 by omega]
    rw [show 2 * ((n - 1) % 13) = 2 * (n % 13) - 2 by omega, show 2 * ((n - 1) / 13) = 2 * (n / 13) by omega] at hr
    exact Or.inr (Or.inl ⟨hr, hA⟩))
  have s2 := P (im1 A lb n) s1.1 s1.2 (A (2 * (n % 13) + 1) (2 * (n / 13))) (lb (n + 1) + 1) (fun hA => by
    have hi := hin _ _ hA
    obtain ⟨k1, k2, k3⟩ := h1 (n + 1) (by omega) (by omega)
    refine ⟨by omega, fun hlt => ?_⟩
    have hr := h3 (n + 1) (by omega) (by omega) (by omega)
    rw [show (lb (n + 1) + 1).toNat = (lb (n + 1)).toNat + 1 by omega]
    rw [show 2 * ((n + 1) % 13) = 2 * (n % 13) + 2 by omega, show 2 * ((n + 1) / 13) = 2 * (n / 13) by omega] at hr
    exact Or.inr (Or.inr (Or.inl ⟨hr, hA⟩)))
  have s3 := P (im2 A lb n) s2.1 s2.2 (A (2 * (n % 13)) (2 * (n / 13) - 1)) (lb (n - 13) + 1) (fun hA => by
    have hi := hin _ _ hA
    obtain ⟨k1, k2, k3⟩ := h1 (n - 13) (by omega) (by omega)
    refine ⟨by omega, fun hlt => ?_⟩
    have hr := h3 (n - 13) (by omega) (by omega) (by omega)
    rw [show (lb (n - 13) + 1).toNat = (lb (n - 13)).toNat + 1 by omega]
    rw [show 2 * ((n - 13) % 13) = 2 * (n % 13) by omega, show 2 * ((n - 13) / 13) = 2 * (n / 13) - 2 by omega] at hr
    exact Or.inr (Or.inr (Or.inr (Or.inl ⟨hr, hA⟩))))
  have s4 := P (im3 A lb n) s3.1 s3.2 (A (2 * (n % 13)) (2 * (n / 13) + 1)) (lb (n + 13) + 1) (fun hA => by
    have hi := hin _ _ hA
    obtain ⟨k1, k2, k3⟩ := h1 (n + 13) (by omega) (by omega)
    refine ⟨by omega, fun hlt => ?_⟩
    have hr := h3 (n + 13) (by omega) (by omega) (by omega)
    rw [show (lb (n + 13) + 1).toNat = (lb (n + 13)).toNat + 1 by omega]
    rw [show 2 * ((n + 13) % 13) = 2 * (n % 13) by omega, show 2 * ((n + 13) / 13) = 2 * (n / 13) + 2 by omega] at hr
    exact Or.inr (Or.inr (Or.inr (Or.inr ⟨hr, hA⟩))))
  have hle := im_le A lb n
  have s5 : 0 ≤ im4 A lb n ∧ (im4 A lb n < 1000 → rch A (2 * (fr % 13)) (2 * (fr / 13)) (im4 A lb n).toNat (2 * (n % 13)) (2 * (n / 13))) := s4
  refine ⟨fun q q0 q1 => ?_, ?_, fun q q0 q1 => ?_⟩
  · unfold upf
    by_cases z : q = n
    · subst z; rw [if_pos rfl, up_s]; exact ⟨rfl, s5.1, by omega⟩
    · rw [if_neg z, up_n (by omega)]; exact h1 q q0 q1
  · unfold upf
    by_cases z : fr = n
    · subst z; rw [if_pos rfl]; have := s5.1; omega
    · rw [if_neg z]; exact h2
  · unfold upf
    by_cases z : q = n
    · subst z; rw [if_pos rfl]; exact s5.2
    · rw [if_neg z]; exact h3 q q0 q1
theorem sm_up (lb : Int → Int) {n x : Int} : ∀ m : Nat, 0 ≤ n → n < m → sm (upf lb n x) m = sm lb m + x - lb n := by
  intro m
  induction m with
  | zero => intro h0 h1; omega
  | succ m ih =>
    intro h0 h1
    show sm (upf lb n x) m + upf lb n x m = sm lb m + lb m + x - lb n
    by_cases z : n = m
    · subst z
      have e : sm (upf lb m x) m = sm lb m := sm_c m (fun i i0 i1 => if_neg (by omega))
      rw [e, show upf lb m x m = x from if_pos rfl]
      omega
    · rw [ih h0 (by omega), show upf lb n x m = lb m from if_neg (by omega)]
      omega
end
section
def PI (A : Int → Int → Bool) (fr S0 q : Int) (s : Int32 × (Nat → Int32)) : Prop :=
  ∃ lb : Int → Int, LI A fr lb s.2 ∧ ((s.1 = jI 0 ∧ sm lb 169 = S0 ∧ ∀ p : Int, 0 ≤ p → p < q → im4 A lb p = lb p) ∨ (s.1 = jI 1 ∧ sm lb 169 < S0))
def b2w (k : Int) (b : Bool) : Int32 := wd (fun i => decide (i = k) && b)
theorem b2w_1 (k : Int) (F : Int → Bool) : wd (fun i => decide (i = k)) &&& wd F = b2w k (F k) := by
  unfold b2w
  rw [wd_and]
  refine wd_c (fun i _ _ => ?_)
  by_cases z : i = k
  · rw [z]
  · rw [decide_eq_false z]; rfl
theorem b2w_0 {k : Int} {b : Bool} (h : 0 ≤ k ∧ k < 32) : (b2w k b = jI 0) = (b = false) := by
  unfold b2w
  rw [wd_eq0]
  apply propext
  constructor
  · intro hz
    have := hz k h.1 h.2
    rw [decide_eq_true rfl, Bool.true_and] at this
    exact this
  · intro hb i _ _
    rw [hb, Bool.and_false]
theorem upf_id (lb : Int → Int) (n : Int) : upf lb n (lb n) = lb := by
  funext q
  unfold upf
  by_cases z : q = n
  · rw [if_pos z, z]
  · rw [if_neg z]
/-- one step of a pass -/
theorem pi_s {A : Int → Int → Bool} (hO : SO A) {fr S0 q q' : Int} (hfr : 0 ≤ fr ∧ fr < 169) {lb : Int → Int} {x4 : Int32} {lab : Nat → Int32} (hL : LI A fr lb lab) (hq : 0 ≤ q ∧ q < 169)
    (h : (x4 = jI 0 ∧ sm lb 169 = S0 ∧ (∀ p : Int, 0 ≤ p → p < q' → im4 A lb p = lb p ∨ p = q)) ∨ (x4 = jI 1 ∧ sm lb 169 < S0)) :
    (im4 A lb q < lb q → PI A fr S0 q' (jI 1, upd lab q.toNat (jI (im4 A lb q)))) ∧ (¬ im4 A lb q < lb q → PI A fr S0 q' (x4, upd lab q.toNat (jI (im4 A lb q)))) := by
  have hs := li_s hO hL hfr hq
  have hle := im_le A lb q
  constructor
  · intro hlt
    refine ⟨_, hs, Or.inr ⟨rfl, ?_⟩⟩
    rw [sm_up lb 169 hq.1 (by omega)]
    rcases h with h | h <;> omega
  · intro hlt
    have e : im4 A lb q = lb q := by omega
    rw [e, upf_id] at hs
    rw [e]
    refine ⟨lb, hs, ?_⟩
    rcases h with ⟨h1, h2, h3⟩ | h
    · refine Or.inl ⟨h1, h2, fun p p0 p1 => ?_⟩
      rcases h3 p p0 p1 with z | z
      · exact z
      · rw [z]; exact e
    · exact Or.inr h
theorem rt_fix {A : Int → Int → Bool} (hC : Cl A) (hO : SO A) {fr : Int} (hfr : 0 ≤ fr ∧ fr < 169) (hA : A (2 * (fr % 13)) (2 * (fr / 13)) = true) {lb : Int → Int} {lab : Nat → Int32} (hL : LI A fr lb lab) (hf : ∀ p : Int, 0 ≤ p → p < 169 → im4 A lb p = lb p) :
    ∀ (d : Nat) (i j : Int), rch A (2 * (fr % 13)) (2 * (fr / 13)) d i j → lb (i / 2 + 13 * (j / 2)) ≤ d := by
  have hin : ∀ i j : Int, A i j = true → 0 ≤ i ∧ i < 25 ∧ 0 ≤ j ∧ j < 25 := fun i j h => by
    apply Classical.byContradiction
    intro w
    rw [hO i j w] at h
    cases h
  have hp := rch_p hC (fi := 2 * (fr % 13)) (fj := 2 * (fr / 13)) (by omega) hA
  have four : ∀ n : Int, 0 ≤ n → n < 169 → (A (2 * (n % 13) - 1) (2 * (n / 13)) = true → lb n ≤ lb (n - 1) + 1) ∧ (A (2 * (n % 13) + 1) (2 * (n / 13)) = true → lb n ≤ lb (n + 1) + 1) ∧ (A (2 * (n % 13)) (2 * (n / 13) - 1) = true → lb n ≤ lb (n - 13) + 1) ∧ (A (2 * (n % 13)) (2 * (n / 13) + 1) = true → lb n ≤ lb (n + 13) + 1) := by
    intro n n0 n1
    have e := hf n n0 n1
    have a1 := st1_le (A (2 * (n % 13) - 1) (2 * (n / 13))) (lb (n - 1) + 1) (lb n)
    have a2 := st1_le (A (2 * (n % 13) + 1) (2 * (n / 13))) (lb (n + 1) + 1) (im1 A lb n)
    have a3 := st1_le (A (2 * (n % 13)) (2 * (n / 13) - 1)) (lb (n - 13) + 1) (im2 A lb n)
    have a4 := st1_le (A (2 * (n % 13)) (2 * (n / 13) + 1)) (lb (n + 13) + 1) (im3 A lb n)
    have le : ∀ (b : Bool) (v e : Int), b = true → st1 b v e ≤ v := by
      intro b v e hb
      by_cases w : v < e
      · rw [hb, st1_T w]; exact Int.le_refl _
      · rw [st1_n (by omega)]; omega
    have b1 := le (A (2 * (n % 13) - 1) (2 * (n / 13))) (lb (n - 1) + 1) (lb n)
    have b2 := le (A (2 * (n % 13) + 1) (2 * (n / 13))) (lb (n + 1) + 1) (im1 A lb n)
    have b3 := le (A (2 * (n % 13)) (2 * (n / 13) - 1)) (lb (n - 13) + 1) (im2 A lb n)
    have b4 := le (A (2 * (n % 13)) (2 * (n / 13) + 1)) (lb (n + 13) + 1) (im3 A lb n)
    change im1 A lb n ≤ _ at a1
    change im2 A lb n ≤ _ at a2
    change im3 A lb n ≤ _ at a3
    change im4 A lb n ≤ _ at a4
    change _ → im1 A lb n ≤ _ at b1
    change _ → im2 A lb n ≤ _ at b2
    change _ → im3 A lb n ≤ _ at b3
    change _ → im4 A lb n ≤ _ at b4
    refine ⟨fun h => ?_, fun h => ?_, fun h => ?_, fun h => ?_⟩
    · have := b1 h; omega
    · have := b2 h; omega
    · have := b3 h; omega
    · have := b4 h; omega
  intro d
  induction d with
  | zero =>
    rintro i j ⟨rfl, rfl⟩
    rw [show 2 * (fr % 13) / 2 + 13 * (2 * (fr / 13) / 2) = fr by omega, hL.2.1]
    omega
  | succ d ih =>
    intro i j hr
    have h3 := hp _ _ _ hr
    have h4 := hin _ _ h3.2.2
    have f := four (i / 2 + 13 * (j / 2)) (by omega) (by omega)
    rw [show 2 * ((i / 2 + 13 * (j / 2)) % 13) = i by omega, show 2 * ((i / 2 + 13 * (j / 2)) / 13) = j by omega] at f
    rcases hr with hr | ⟨hr, e⟩ | ⟨hr, e⟩ | ⟨hr, e⟩ | ⟨hr, e⟩
    · have := ih _ _ hr
      omega
    · have h5 := ih _ _ hr
      rw [show (i - 2) / 2 + 13 * (j / 2) = i / 2 + 13 * (j / 2) - 1 by omega] at h5
      have := f.1 e
      omega
    · have h5 := ih _ _ hr
      rw [show (i + 2) / 2 + 13 * (j / 2) = i / 2 + 13 * (j / 2) + 1 by omega] at h5
      have := f.2.1 e
      omega
    · have h5 := ih _ _ hr
      rw [show i / 2 + 13 * ((j - 2) / 2) = i / 2 + 13 * (j / 2) - 13 by omega] at h5
      have := f.2.2.1 e
      omega
    · have h5 := ih _ _ hr
      rw [show i / 2 + 13 * ((j + 2) / 2) = i / 2 + 13 * (j / 2) + 13 by omega] at h5
      have := f.2.2.2 e
      omega
theorem rt_ans {A : Int → Int → Bool} (hC : Cl A) (hO : SO A) {fr to m : Int} (hfr : 0 ≤ fr ∧ fr < 169) (hto : 0 ≤ to ∧ to < 169) (hA : A (2 * (fr % 13)) (2 * (fr / 13)) = true) {lb : Int → Int} {lab : Nat → Int32} (hL : LI A fr lb lab) (hf : ∀ p : Int, 0 ≤ p → p < 169 → im4 A lb p = lb p)
    (hR : RT A (2 * (fr % 13)) (2 * (fr / 13)) (2 * (to % 13)) (2 * (to / 13)) m) : m = if lb to < 1000 then lb to else -1 := by
  have hx := rt_fix hC hO hfr hA hL hf
  obtain ⟨h1, h2, h3⟩ := hL.1 to hto.1 hto.2
  rcases hR with ⟨e, hn⟩ | ⟨d, e, hd, hr, hm⟩
  · by_cases z : lb to < 1000
    · exact absurd (hL.2.2 to hto.1 hto.2 z) (hn _)
    · rw [if_neg z]; exact e
  · have h4 := hx d _ _ hr
    rw [show 2 * (to % 13) / 2 + 13 * (2 * (to / 13) / 2) = to by omega] at h4
    have z : lb to < 1000 := by omega
    rw [if_pos z]
    have h5 := hL.2.2 to hto.1 hto.2 z
    have : ¬ (lb to).toNat < d := fun w => hm _ w h5
    omega
section
variable {cy : Int32} {lys fil mad st px py lab : Nat → Int32}
variable {post : Int32 → SY → Prop}
theorem yy_rt114 {L : Int → Int → Int → Bool} (hY : RY L lys) (hO : RO L) {l fr to : Int} (hl : 0 ≤ l ∧ l < 6) (hfr : 0 ≤ fr ∧ fr < 169) (hto : 0 ≤ to ∧ to < 169)
    (h : ∀ lb lab', LI (L l) fr lb lab' → (∀ p : Int, 0 ≤ p → p < 169 → im4 (L l) lb p = lb p) → post (jI (if lb to < 1000 then lb to else -1)) (cy, lys, fil, mad, st, px, py, lab')) :
    ∀ (n : Nat) (lb : Int → Int) (lab : Nat → Int32), LI (L l) fr lb lab → sm lb 169 < n → wY_route_114 post (jI l) (jI to) (n + 1) (jI 1) cy lys fil mad st px py lab := by
  intro n
  induction n with
  | zero =>
    intro lb lab hL hs
    have := sm_nn (f := lb) 169 (fun i i0 i1 => (hL.1 i i0 (by omega)).2.1)
    omega
  | succ n ih =>
    intro lb lab hL hs
    rw [wY_route_114]
    simp (disch := omega) only [jl_0, jl_1, jl_2, jl_3, jl_4, jl_5, jl_6, jl_7, jl_8, jl_9, jl_12, jl_13, jl_16, jl_24, jl_25, jl_50, jl_168, jl_169, jl_624, jl_625, jl_1000, jI_add, jI_sub, jI_mul, jI_neg, jI_div, ie_mod, jI_leT, jI_leF, jI_ltT, jI_ltF, jI_eqT, jI_eqF, jI_cl, jI_inT, forall_eq, true_implies, false_implies, implies_true, not_true_eq_false, not_false_eq_true, true_and, and_true, b2_0, b2_z]
    refine lj_i (fun n125 q s => wY_route_125 post (wY_route_114 post (jI l) (jI to) (n + 1)) (jI l) (jI to) n125 s.1 (jI q) cy lys fil mad st px py s.2) (fun q s => PI (L l) fr (sm lb 169) q s) 0 169 (s0 := (jI 0, lab)) ⟨lb, hL, Or.inl ⟨rfl, rfl, fun p p0 p1 => by omega⟩⟩ (by omega) (fun n125 s hI => ?_) (fun n125 q s q0 q1 hI ih2 => ?_)
    · obtain ⟨x4, lab1⟩ := s
      simp (disch := omega) only [wY_route_125, jl_0, jl_1, jl_2, jl_3, jl_4, jl_5, jl_6, jl_7, jl_8, jl_9, jl_12, jl_13, jl_16, jl_24, jl_25, jl_50, jl_168, jl_169, jl_624, jl_625, jl_1000, jI_add, jI_sub, jI_mul, jI_neg, jI_div, ie_mod, jI_leT, jI_leF, jI_ltT, jI_ltF, jI_eqT, jI_eqF, jI_cl, jI_inT, forall_eq, true_implies, false_implies, implies_true, not_true_eq_false, not_false_eq_true, true_and, and_true, b2_0, b2_z]
      refine lj_id (fun n157 q s => wY_route_157 post (wY_route_114 post (jI l) (jI to) (n + 1)) (jI l) (jI to) n157 s.1 (jI q) cy lys fil mad st px py s.2) (fun q s => PI (L l) fr (sm lb 169) 169 s) 168 (s0 := (x4, lab1)) hI (by omega) (fun n157 s hI => ?_) (fun n157 q s q0 q1 hI ih2 => ?_)
      · obtain ⟨x4, lab1⟩ := s
        simp (disch := omega) only [wY_route_157, jl_0, jl_1, jl_2, jl_3, jl_4, jl_5, jl_6, jl_7, jl_8, jl_9, jl_12, jl_13, jl_16, jl_24, jl_25, jl_50, jl_168, jl_169, jl_624, jl_625, jl_1000, jI_add, jI_sub, jI_mul, jI_neg, jI_div, ie_mod, jI_leT, jI_leF, jI_ltT, jI_ltF, jI_eqT, jI_eqF, jI_cl, jI_inT, forall_eq, true_implies, false_implies, implies_true, not_true_eq_false, not_false_eq_true, true_and, and_true, b2_0, b2_z]
        obtain ⟨lb1, hL1, ⟨e, _, hf⟩ | ⟨e, hs1⟩⟩ := hI
        · dsimp only at e hL1
          rw [e, wY_route_114]
          obtain ⟨g1, g2, g3⟩ := hL1.1 to hto.1 hto.2
          have hh := h lb1 lab1 hL1 hf
          by_cases z : lb1 to < 1000
          · rw [if_pos z] at hh
            simp (disch := omega) only [jl_0, jl_1, jl_2, jl_3, jl_4, jl_5, jl_6, jl_7, jl_8, jl_9, jl_12, jl_13, jl_16, jl_24, jl_25, jl_50, jl_168, jl_169, jl_624, jl_625, jl_1000, jI_add, jI_sub, jI_mul, jI_neg, jI_div, ie_mod, jI_leT, jI_leF, jI_ltT, jI_ltF, jI_eqT, jI_eqF, jI_cl, jI_inT, forall_eq, true_implies, false_implies, implies_true, not_true_eq_false, not_false_eq_true, true_and, and_true, b2_0, b2_z, g1]
            exact hh
          · rw [if_neg z] at hh
            simp (disch := omega) only [jl_0, jl_1, jl_2, jl_3, jl_4, jl_5, jl_6, jl_7, jl_8, jl_9, jl_12, jl_13, jl_16, jl_24, jl_25, jl_50, jl_168, jl_169, jl_624, jl_625, jl_1000, jI_add, jI_sub, jI_mul, jI_neg, jI_div, ie_mod, jI_leT, jI_leF, jI_ltT, jI_ltF, jI_eqT, jI_eqF, jI_cl, jI_inT, forall_eq, true_implies, false_implies, implies_true, not_true_eq_false, not_false_eq_true, true_and, and_true, b2_0, b2_z, g1]
            exact hh
        · dsimp only at e hL1
          rw [e]
          exact ih lb1 lab1 hL1 (by omega)
      · obtain ⟨x4, lab1⟩ := s
        obtain ⟨lb1, hL1, hI⟩ := hI
        dsimp only at hL1 hI ih2 ⊢
        have hst := pi_s (hO l) (q := q) (q' := 169) hfr hL1 ⟨q0, by omega⟩ (hI.imp (fun z => ⟨z.1, z.2.1, fun p p0 p1 => Or.inl (z.2.2 p p0 p1)⟩) id)
        simp (disch := omega) only [wY_route_157, jl_0, jl_1, jl_2, jl_3, jl_4, jl_5, jl_6, jl_7, jl_8, jl_9, jl_12, jl_13, jl_16, jl_24, jl_25, jl_50, jl_168, jl_169, jl_624, jl_625, jl_1000, jI_add, jI_sub, jI_mul, jI_neg, jI_div, ie_mod, jI_leT, jI_leF, jI_ltT, jI_ltF, jI_eqT, jI_eqF, jI_cl, jI_inT, forall_eq, true_implies, false_implies, implies_true, not_true_eq_false, not_false_eq_true, true_and, and_true, b2_0, b2_z]
        rw [yy_nearer hY hO hl hL1.1 ⟨q0, by omega⟩]
        simp (disch := omega) only [b2_0]
        refine tf_c (fun e => ?_) (fun e => ?_)
        · have := ih2 _ (hst.2 (of_decide_eq_false e))
          rw [show q + -1 = q - 1 by omega]
          exact this
        · have := ih2 _ (hst.1 (of_decide_eq_true e))
          rw [show q + -1 = q - 1 by omega]
          exact this
    · obtain ⟨x4, lab1⟩ := s
      obtain ⟨lb1, hL1, hI⟩ := hI
      dsimp only at hL1 hI ih2 ⊢
      have hst := pi_s (hO l) (q := q) (q' := q + 1) hfr hL1 ⟨q0, q1⟩ (hI.imp (fun z => ⟨z.1, z.2.1, fun p p0 p1 => by
        by_cases w : p = q
        · exact Or.inr w
        · exact Or.inl (z.2.2 p p0 (by omega))⟩) id)
      simp (disch := omega) only [wY_route_125, jl_0, jl_1, jl_2, jl_3, jl_4, jl_5, jl_6, jl_7, jl_8, jl_9, jl_12, jl_13, jl_16, jl_24, jl_25, jl_50, jl_168, jl_169, jl_624, jl_625, jl_1000, jI_add, jI_sub, jI_mul, jI_neg, jI_div, ie_mod, jI_leT, jI_leF, jI_ltT, jI_ltF, jI_eqT, jI_eqF, jI_cl, jI_inT, forall_eq, true_implies, false_implies, implies_true, not_true_eq_false, not_false_eq_true, true_and, and_true, b2_0, b2_z]
      rw [yy_nearer hY hO hl hL1.1 ⟨q0, q1⟩]
      simp (disch := omega) only [b2_0]
      refine tf_c (fun e => ?_) (fun e => ?_)
      · exact ih2 _ (hst.2 (of_decide_eq_false e))
      · exact ih2 _ (hst.1 (of_decide_eq_true e))
end
theorem i_vc_route {k : Nat} {u : SX} {v : SY} (I : i_Rel k u v) (hk : k + 5 ≤ 2560) (v1 : Int32) (v2 : Int32) (v3 : Int32) : wpX_route (fun r u' => wpY_route (fun r' v' => r' = r ∧ i_Rel (k + 5) u' v') v v1 v2 v3) u v1 v2 v3 := by
  refine rl_el (P := fun u v => wpX_route (fun r u' => wpY_route (fun r' v' => r' = r ∧ i_Rel (k + 5) u' v') v v1 v2 v3) u v1 v2 v3) ?_ I
  intro L c xs ys bd rows drawn passed work inner crn rfr rto par cel opn rst lys fil mad st px py lab hR
  obtain ⟨l, a1, a2, rfl⟩ := jI_ex v1
  obtain ⟨fr, b1, b2', rfl⟩ := jI_ex v2
  obtain ⟨to, c1, c2, rfl⟩ := jI_ex v3
  by_cases hl : 0 ≤ l ∧ l < 6
  · by_cases hf : 0 ≤ fr ∧ fr ≤ 168
    · by_cases ht : 0 ≤ to ∧ to ≤ 168
      · have yv : ∀ (X : SX) (m : Int), L l (2 * (fr % 13)) (2 * (fr / 13)) = false ∨ L l (2 * (to % 13)) (2 * (to / 13)) = false → m = -1 → i_Rel (k + 5) X (jI c, lys, fil, mad, st, px, py, lab) → wpY_route (fun r' v' => r' = jI m ∧ i_Rel (k + 5) X v') (jI c, lys, fil, mad, st, px, py, lab) (jI l) (jI fr) (jI to) := by
          intro X m hor hm hI
          subst hm
          simp (disch := omega) only [wpY_route, yy_lay, jl_0, jl_1, jl_2, jl_3, jl_4, jl_5, jl_6, jl_7, jl_8, jl_9, jl_12, jl_13, jl_16, jl_24, jl_25, jl_50, jl_168, jl_169, jl_624, jl_625, jl_1000, jI_add, jI_sub, jI_mul, jI_neg, jI_div, ie_mod, jI_leT, jI_leF, jI_ltT, jI_ltF, jI_eqT, jI_eqF, jI_cl, jI_inT, forall_eq, true_implies, false_implies, implies_true, not_true_eq_false, not_false_eq_true, true_and, and_true, b2_0, b2_z, yy_in hR.2.1 hR.2.2.1]
          rw [show fr % 13 * 2 = 2 * (fr % 13) by omega, show fr / 13 * 2 = 2 * (fr / 13) by omega, show to % 13 * 2 = 2 * (to % 13) by omega, show to / 13 * 2 = 2 * (to / 13) by omega]
          refine tf_c (fun _ => hI) (fun e => ?_)
          rcases hor with w | w
          · rw [w] at e; cases e
          · exact br_t w hI
        simp (disch := omega) only [wpX_route, xx_lay, jl_0, jl_1, jl_2, jl_3, jl_4, jl_5, jl_6, jl_7, jl_8, jl_9, jl_12, jl_13, jl_16, jl_24, jl_25, jl_50, jl_168, jl_169, jl_624, jl_625, jl_1000, jI_add, jI_sub, jI_mul, jI_neg, jI_div, ie_mod, jI_leT, jI_leF, jI_ltT, jI_ltF, jI_eqT, jI_eqF, jI_cl, jI_inT, forall_eq, true_implies, false_implies, implies_true, not_true_eq_false, not_false_eq_true, true_and, and_true, b2_0, b2_z, wd_one]
        refine lj_a (fun n i s => wX_route_52 _ (jI l) (jI fr) (wd (fun i => decide (i = 2 * (to % 13)))) (jI (2 * (to / 13))) (jI c) bd n (jI i) rows drawn passed s inner crn rfr rto par cel opn rst) (fun i => fl work i (fun _ => jI 0)) 0 25 (fl_0 _ _).symm (by omega) (fun n => ?_) (fun n i h0 h1 ih => ?_)
        · have w1 : wd (fun i => decide (i = 2 * (fr % 13))) &&& wd (fun i => L l i (2 * (fr / 13))) = b2w (2 * (fr % 13)) (L l (2 * (fr % 13)) (2 * (fr / 13))) := b2w_1 _ (fun i => L l i (2 * (fr / 13)))
          have w2 : wd (fun i => decide (i = 2 * (to % 13))) &&& wd (fun i => L l i (2 * (to / 13))) = b2w (2 * (to % 13)) (L l (2 * (to % 13)) (2 * (to / 13))) := b2w_1 _ (fun i => L l i (2 * (to / 13)))
          simp (disch := omega) only [wX_route_52, jl_0, jl_1, jl_2, jl_3, jl_4, jl_5, jl_6, jl_7, jl_8, jl_9, jl_12, jl_13, jl_16, jl_24, jl_25, jl_50, jl_168, jl_169, jl_624, jl_625, jl_1000, jI_add, jI_sub, jI_mul, jI_neg, jI_div, ie_mod, jI_leT, jI_leF, jI_ltT, jI_ltF, jI_eqT, jI_eqF, jI_cl, jI_inT, forall_eq, true_implies, false_implies, implies_true, not_true_eq_false, not_false_eq_true, true_and, and_true, b2_0, b2_z, wd_one, up_s, xx_row hR.1 hR.2.2.1, w1, w2, b2w_0]
          refine tf_c (fun e => yv _ _ (Or.inl e) rfl (rl_mk hR)) (fun e1 => tf_c (fun e => yv _ _ (Or.inr e) rfl (rl_mk hR)) (fun e2 => ?_))
          have hp := rch_p (hR.2.2.2.1 l) (fi := 2 * (fr % 13)) (fj := 2 * (fr / 13)) (by omega) e1
          have hone : rcn (L l) (2 * (fr % 13)) (2 * (fr / 13)) 0 ≥ 1 := by
            have : 0 < rcn (L l) (2 * (fr % 13)) (2 * (fr / 13)) 0 := cn_pos (i := fr) hf.1 (by omega) (ex_T ⟨rfl, rfl⟩)
            omega
          refine ⟨169 + 2, xx_rt139 (fi := 2 * (fr % 13)) (fj := 2 * (fr / 13)) (gi := 2 * (to % 13)) hR.1 hR.2.2.1 hl (by omega) hp (fun m work' inner' hm => ?_) 169 0 _ _ (by omega) (by omega) (fun e he => by omega) (fun j j0 j1 j2 => ?_)⟩
          · simp (disch := omega) only [wpY_route, yy_lay, jl_0, jl_1, jl_2, jl_3, jl_4, jl_5, jl_6, jl_7, jl_8, jl_9, jl_12, jl_13, jl_16, jl_24, jl_25, jl_50, jl_168, jl_169, jl_624, jl_625, jl_1000, jI_add, jI_sub, jI_mul, jI_neg, jI_div, ie_mod, jI_leT, jI_leF, jI_ltT, jI_ltF, jI_eqT, jI_eqF, jI_cl, jI_inT, forall_eq, true_implies, false_implies, implies_true, not_true_eq_false, not_false_eq_true, true_and, and_true, b2_0, b2_z, yy_in hR.2.1 hR.2.2.1]
            rw [show fr % 13 * 2 = 2 * (fr % 13) by omega, show fr / 13 * 2 = 2 * (fr / 13) by omega, show to % 13 * 2 = 2 * (to % 13) by omega, show to / 13 * 2 = 2 * (to / 13) by omega, e1, e2]
            refine br_f (by decide) (br_f (by decide) ?_)
            refine lj_a (fun n i s => wY_route_77 _ (jI l) (jI fr) (jI to) (jI c) n (jI i) lys fil mad st px py s) (fun i => fl lab i (fun q => jI (if q = fr then 0 else 1000))) 0 169 (fl_0 _ _).symm (by omega) (fun n => ?_) (fun n i h0 h1 ih => ?_)
            · simp (disch := omega) only [wY_route_77, jl_0, jl_1, jl_2, jl_3, jl_4, jl_5, jl_6, jl_7, jl_8, jl_9, jl_12, jl_13, jl_16, jl_24, jl_25, jl_50, jl_168, jl_169, jl_624, jl_625, jl_1000, jI_add, jI_sub, jI_mul, jI_neg, jI_div, ie_mod, jI_leT, jI_leF, jI_ltT, jI_ltF, jI_eqT, jI_eqF, jI_cl, jI_inT, forall_eq, true_implies, false_implies, implies_true, not_true_eq_false, not_false_eq_true, true_and, and_true, b2_0, b2_z]
              have hLI : LI (L l) fr (fun q => if q = fr then 0 else 1000) (fl lab 169 (fun q => jI (if q = fr then 0 else 1000))) := by
                refine ⟨fun q q0 q1 => ⟨fl_r ⟨q0, q1⟩, ?_, ?_⟩, if_pos rfl, fun q q0 q1 hlt => ?_⟩
                · dsimp only; split <;> omega
                · dsimp only; split <;> omega
                · dsimp only at hlt ⊢
                  by_cases z : q = fr
                  · subst z; rw [if_pos rfl]; exact ⟨rfl, rfl⟩
                  · rw [if_neg z] at hlt; omega
              have hs := sm_nn (f := fun q => if q = fr then (0 : Int) else 1000) 169 (fun i i0 i1 => by split <;> omega)
              refine ⟨(sm (fun q => if q = fr then (0 : Int) else 1000) 169).toNat + 1 + 1, yy_rt114 hR.2.1 hR.2.2.1 hl ⟨hf.1, by omega⟩ ⟨ht.1, by omega⟩ (fun lb lab' hL2 hfx => ?_) _ _ _ hLI (by omega)⟩
              refine ⟨congrArg jI ?_, rl_mk hR⟩
              exact (rt_ans (hR.2.2.2.1 l) (hR.2.2.1 l) ⟨hf.1, by omega⟩ ⟨ht.1, by omega⟩ e1 hL2 hfx hm).symm
            · by_cases z : i = fr
              · simp (disch := omega) only [wY_route_77, jl_0, jl_1, jl_2, jl_3, jl_4, jl_5, jl_6, jl_7, jl_8, jl_9, jl_12, jl_13, jl_16, jl_24, jl_25, jl_50, jl_168, jl_169, jl_624, jl_625, jl_1000, jI_add, jI_sub, jI_mul, jI_neg, jI_div, ie_mod, jI_leT, jI_leF, jI_ltT, jI_ltF, jI_eqT, jI_eqF, jI_cl, jI_inT, forall_eq, true_implies, false_implies, implies_true, not_true_eq_false, not_false_eq_true, true_and, and_true, b2_0, b2_z]
                rw [fl_S _ _ h0 (by rw [if_pos z])]; exact ih
              · simp (disch := omega) only [wY_route_77, jl_0, jl_1, jl_2, jl_3, jl_4, jl_5, jl_6, jl_7, jl_8, jl_9, jl_12, jl_13, jl_16, jl_24, jl_25, jl_50, jl_168, jl_169, jl_624, jl_625, jl_1000, jI_add, jI_sub, jI_mul, jI_neg, jI_div, ie_mod, jI_leT, jI_leF, jI_ltT, jI_ltF, jI_eqT, jI_eqF, jI_cl, jI_inT, forall_eq, true_implies, false_implies, implies_true, not_true_eq_false, not_false_eq_true, true_and, and_true, b2_0, b2_z]
                rw [fl_S _ _ h0 (by rw [if_neg z])]; exact ih
          · by_cases z : j = 2 * (fr / 13)
            · rw [z, up_s]
              refine wd_c (fun i _ _ => ex_d.trans (ex_c ?_))
              exact ⟨fun w => ⟨w, rfl⟩, fun w => w.1⟩
            · rw [up_n (by omega), fl_r (by omega)]
              refine wd_J0.trans (wd_c (fun i _ _ => (ex_F (fun w => z w.2)).symm))
        · simp (disch := omega) only [wX_route_52, jl_0, jl_1, jl_2, jl_3, jl_4, jl_5, jl_6, jl_7, jl_8, jl_9, jl_12, jl_13, jl_16, jl_24, jl_25, jl_50, jl_168, jl_169, jl_624, jl_625, jl_1000, jI_add, jI_sub, jI_mul, jI_neg, jI_div, ie_mod, jI_leT, jI_leF, jI_ltT, jI_ltF, jI_eqT, jI_eqF, jI_cl, jI_inT, forall_eq, true_implies, false_implies, implies_true, not_true_eq_false, not_false_eq_true, true_and, and_true, b2_0, b2_z]
          rw [fl_s work (fun _ => jI 0) h0]
          exact ih
      · by_cases h0 : to < 0
        · simp (disch := omega) only [wpX_route, wpY_route, xx_lay, yy_lay, jl_0, jl_1, jl_2, jl_3, jl_4, jl_5, jl_6, jl_7, jl_8, jl_9, jl_12, jl_13, jl_16, jl_24, jl_25, jl_50, jl_168, jl_169, jl_624, jl_625, jl_1000, jI_add, jI_sub, jI_mul, jI_neg, jI_div, ie_mod, jI_leT, jI_leF, jI_ltT, jI_ltF, jI_eqT, jI_eqF, jI_cl, jI_inT, forall_eq, true_implies, false_implies, implies_true, not_true_eq_false, not_false_eq_true, true_and, and_true, b2_0, b2_z]
          exact rl_mk hR
        · simp (disch := omega) only [wpX_route, wpY_route, xx_lay, yy_lay, jl_0, jl_1, jl_2, jl_3, jl_4, jl_5, jl_6, jl_7, jl_8, jl_9, jl_12, jl_13, jl_16, jl_24, jl_25, jl_50, jl_168, jl_169, jl_624, jl_625, jl_1000, jI_add, jI_sub, jI_mul, jI_neg, jI_div, ie_mod, jI_leT, jI_leF, jI_ltT, jI_ltF, jI_eqT, jI_eqF, jI_cl, jI_inT, forall_eq, true_implies, false_implies, implies_true, not_true_eq_false, not_false_eq_true, true_and, and_true, b2_0, b2_z]
          exact rl_mk hR
    · by_cases h0 : fr < 0
      · simp (disch := omega) only [wpX_route, wpY_route, xx_lay, yy_lay, jl_0, jl_1, jl_2, jl_3, jl_4, jl_5, jl_6, jl_7, jl_8, jl_9, jl_12, jl_13, jl_16, jl_24, jl_25, jl_50, jl_168, jl_169, jl_624, jl_625, jl_1000, jI_add, jI_sub, jI_mul, jI_neg, jI_div, ie_mod, jI_leT, jI_leF, jI_ltT, jI_ltF, jI_eqT, jI_eqF, jI_cl, jI_inT, forall_eq, true_implies, false_implies, implies_true, not_true_eq_false, not_false_eq_true, true_and, and_true, b2_0, b2_z]
        exact rl_mk hR
      · simp (disch := omega) only [wpX_route, wpY_route, xx_lay, yy_lay, jl_0, jl_1, jl_2, jl_3, jl_4, jl_5, jl_6, jl_7, jl_8, jl_9, jl_12, jl_13, jl_16, jl_24, jl_25, jl_50, jl_168, jl_169, jl_624, jl_625, jl_1000, jI_add, jI_sub, jI_mul, jI_neg, jI_div, ie_mod, jI_leT, jI_leF, jI_ltT, jI_ltF, jI_eqT, jI_eqF, jI_cl, jI_inT, forall_eq, true_implies, false_implies, implies_true, not_true_eq_false, not_false_eq_true, true_and, and_true, b2_0, b2_z]
        exact rl_mk hR
  · simp (disch := omega) only [wpX_route, wpY_route, xx_layF, yy_layF, jl_0, jl_1, jl_2, jl_3, jl_4, jl_5, jl_6, jl_7, jl_8, jl_9, jl_12, jl_13, jl_16, jl_24, jl_25, jl_50, jl_168, jl_169, jl_624, jl_625, jl_1000, jI_add, jI_sub, jI_mul, jI_neg, jI_div, ie_mod, jI_leT, jI_leF, jI_ltT, jI_ltF, jI_eqT, jI_eqF, jI_cl, jI_inT, forall_eq, true_implies, false_implies, implies_true, not_true_eq_false, not_false_eq_true, true_and, and_true, b2_0, b2_z]
    exact rl_mk hR
end
section
/-! ===== the table of runs ===== -/
def rc0 (T : Int → Int → Bool) (s e j : Int) : Int := j % 2 * cn (fun i => (T i j && decide (s ≤ i ∧ i ≤ e)) && decide (i % 2 = 1 ∧ i < 24)) 32
theorem rc0_r (T : Int → Int → Bool) (s e j : Int) : 0 ≤ rc0 T s e j ∧ rc0 T s e j ≤ 32 := by
  have h1 := cn_nn (fun i => (T i j && decide (s ≤ i ∧ i ≤ e)) && decide (i % 2 = 1 ∧ i < 24)) 32
  have h2 := cn_max (fun i => (T i j && decide (s ≤ i ∧ i ≤ e)) && decide (i % 2 = 1 ∧ i < 24)) 32
  unfold rc0
  rcases (show j % 2 = 0 ∨ j % 2 = 1 by omega) with h | h
  · rw [h, Int.zero_mul]; omega
  · rw [h, Int.one_mul]; omega
def fr0 (s e j : Int) : Bool := decide (s = 0 ∨ e = 24 ∨ j = 0 ∨ j = 24)
/-- one run by itself -/
def R1 (T : Int → Int → Bool) (s e j : Int) : Prop := 0 ≤ s ∧ s ≤ e ∧ e ≤ 24 ∧ 0 ≤ j ∧ j ≤ 24 ∧ (∀ i : Int, s ≤ i → i ≤ e → T i j = true) ∧ T (s - 1) j = false ∧ T (e + 1) j = false
def TB (T : Int → Int → Bool) (n : Int) (F G jr : Int → Int) : Prop :=
  (∀ k : Int, 0 ≤ k → k < n → R1 T (F k) (G k) (jr k)) ∧
  (∀ k : Int, 0 ≤ k → k + 1 < n → jr k < jr (k + 1) ∨ (jr k = jr (k + 1) ∧ G k + 1 < F (k + 1)))
def TA (T : Int → Int → Bool) (n : Int) (F G jr : Int → Int) (rfr rto par cel opn : Nat → Int32) : Prop :=
  ∀ k : Int, 0 ≤ k → k < n → rfr k.toNat = jI (F k) ∧ rto k.toNat = jI (G k) ∧ par k.toNat = jI k ∧ cel k.toNat = jI (rc0 T (F k) (G k) (jr k)) ∧ opn k.toNat = b2 (fr0 (F k) (G k) (jr k))
def TS (jc n : Int) (jr st : Int → Int) (rst : Nat → Int32) : Prop :=
  ∀ j : Int, 0 ≤ j → j ≤ jc → rst j.toNat = jI (st j) ∧ 0 ≤ st j ∧ st j ≤ n ∧ ∀ k : Int, 0 ≤ k → k < n → (k < st j ↔ jr k < j)
def TC (T : Int → Int → Bool) (jc at' n : Int) (F G jr : Int → Int) : Prop :=
  (∀ i j : Int, T i j = true → j < jc ∨ (j = jc ∧ i < at') → ∃ k : Int, 0 ≤ k ∧ k < n ∧ jr k = j ∧ F k ≤ i ∧ i ≤ G k) ∧
  (∀ k : Int, 0 ≤ k → k < n → jr k < jc ∨ (jr k = jc ∧ G k < at')) ∧ 0 ≤ n ∧
  ((at' = 0 ∧ n ≤ 13 * jc) ∨ (T at' jc = false ∧ 0 < at' ∧ 2 * (n - 13 * jc) ≤ at' + 1))
def PB (T : Int → Int → Bool) (jc at' n : Int) (F G jr st : Int → Int) (rfr rto par cel opn rst : Nat → Int32) : Prop :=
  TB T n F G jr ∧ TA T n F G jr rfr rto par cel opn ∧ TS jc n jr st rst ∧ TC T jc at' n F G jr
theorem upf_s (f : Int → Int) (n x : Int) : upf f n x n = x := if_pos rfl
theorem upf_n (f : Int → Int) {n x k : Int} (h : k < n) : upf f n x k = f k := if_neg (by omega)
theorem pb_ext {T : Int → Int → Bool} {jc at' n s e : Int} {F G jr st : Int → Int} {rfr rto par cel opn rst : Nat → Int32} (h : PB T jc at' n F G jr st rfr rto par cel opn rst)
    (hO : SO T) (hj : 0 ≤ jc ∧ jc ≤ 24) (h0 : 0 ≤ at') (h1 : at' ≤ s) (h2 : s < e) (h3 : e ≤ 25) (hz : ∀ i : Int, at' ≤ i → i < s → T i jc = false) (ht : ∀ i : Int, s ≤ i → i < e → T i jc = true) (he : T e jc = false) :
    PB T jc e (n + 1) (upf F n s) (upf G n (e - 1)) (upf jr n jc) st (upd rfr n.toNat (jI s)) (upd rto n.toNat (jI (e - 1))) (upd par n.toNat (jI n)) (upd cel n.toNat (jI (rc0 T s (e - 1) jc))) (upd opn n.toNat (b2 (fr0 s (e - 1) jc))) rst := by
  obtain ⟨⟨a1, a2⟩, b, c, d1, d2, d3, d4⟩ := h
  have hs : T s jc = true := ht s (by omega) h2
  have has : at' = 0 ∨ at' < s := by
    rcases d4 with ⟨z, _⟩ | ⟨z, _, _⟩
    · exact Or.inl z
    · refine Or.inr ?_
      apply Classical.byContradiction
      intro w
      have : at' = s := by omega
      rw [this, hs] at z
      cases z
  have hsm : T (s - 1) jc = false := by
    by_cases w : at' ≤ s - 1
    · exact hz (s - 1) w (by omega)
    · have : s = 0 := by omega
      rw [this]
      exact hO _ _ (by omega)
  refine ⟨⟨fun k k0 k1 => ?_, fun k k0 k1 => ?_⟩, fun k k0 k1 => ?_, fun j j0 j1 => ?_, fun i j hT hij => ?_, fun k k0 k1 => ?_, by omega, ?_⟩
  · by_cases z : k = n
    · subst z
      rw [upf_s, upf_s, upf_s]
      exact ⟨by omega, by omega, by omega, hj.1, hj.2, fun i i0 i1 => ht i i0 (by omega), hsm, by rw [show e - 1 + 1 = e by omega]; exact he⟩
    · rw [upf_n F (by omega), upf_n G (by omega), upf_n jr (by omega)]
      exact a1 k k0 (by omega)
  · by_cases z : k + 1 = n
    · subst z
      rw [upf_s, upf_s, upf_n G (by omega), upf_n jr (by omega)]
      rcases d2 k k0 (by omega) with w | ⟨w, w2⟩
      · exact Or.inl w
      · refine Or.inr ⟨w, ?_⟩
        rcases has with q | q
        · have := (a1 k k0 (by omega)).1
          have := (a1 k k0 (by omega)).2.1
          omega
        · omega
    · rw [upf_n F (by omega), upf_n G (by omega), upf_n jr (by omega), upf_n jr (by omega)]
      exact a2 k k0 (by omega)
  · by_cases z : k = n
    · subst z
      rw [upf_s, upf_s, upf_s, up_s, up_s, up_s, up_s, up_s]
      exact ⟨rfl, rfl, rfl, rfl, rfl⟩
    · rw [upf_n F (by omega), upf_n G (by omega), upf_n jr (by omega), up_n (by omega), up_n (by omega), up_n (by omega), up_n (by omega), up_n (by omega)]
      exact b k k0 (by omega)
  · obtain ⟨e1, e2, e3, e4⟩ := c j j0 j1
    refine ⟨e1, e2, by omega, fun k k0 k1 => ?_⟩
    by_cases z : k = n
    · subst z
      rw [upf_s]
      omega
    · rw [upf_n jr (by omega)]
      exact e4 k k0 (by omega)
  · by_cases w : j < jc ∨ (j = jc ∧ i < at')
    · obtain ⟨k, k0, k1, k2, k3⟩ := d1 i j hT w
      refine ⟨k, k0, by omega, ?_⟩
      rw [upf_n F k1, upf_n G k1, upf_n jr k1]
      exact ⟨k2, k3⟩
    · have hjj : j = jc := by omega
      subst hjj
      refine ⟨n, d3, by omega, ?_⟩
      rw [upf_s, upf_s, upf_s]
      refine ⟨rfl, ?_, by omega⟩
      apply Classical.byContradiction
      intro q
      rw [hz i (by omega) (by omega)] at hT
      cases hT
  · by_cases z : k = n
    · subst z
      rw [upf_s, upf_s]
      exact Or.inr ⟨rfl, by omega⟩
    · rw [upf_n G (by omega), upf_n jr (by omega)]
      rcases d2 k k0 (by omega) with w | ⟨w, w2⟩
      · exact Or.inl w
      · exact Or.inr ⟨w, by omega⟩
  · refine Or.inr ⟨he, by omega, ?_⟩
    rcases d4 with ⟨z, z2⟩ | ⟨z, z2, z3⟩
    · omega
    · rcases has with q | q
      · omega
      · omega
theorem nx_t {T : Int → Bool} : ∀ (d : Nat) (a i : Int), i - a = d → T i = true → ∃ s : Int, a ≤ s ∧ s ≤ i ∧ T s = true ∧ ∀ q : Int, a ≤ q → q < s → T q = false := by
  intro d
  induction d with
  | zero => intro a i h hi; exact ⟨a, by omega, by omega, by rw [show a = i by omega]; exact hi, fun q q0 q1 => by omega⟩
  | succ d ih =>
    intro a i h hi
    cases e : T a with
    | true => exact ⟨a, by omega, by omega, e, fun q q0 q1 => by omega⟩
    | false =>
      obtain ⟨s, s0, s1, s2, s3⟩ := ih (a + 1) i (by omega) hi
      refine ⟨s, by omega, s1, s2, fun q q0 q1 => ?_⟩
      by_cases z : q = a
      · rw [z]; exact e
      · exact s3 q (by omega) q1
theorem nx_f {T : Int → Bool} (a i : Int) (h : a ≤ i) (hi : T i = false) : ∃ s : Int, a ≤ s ∧ s ≤ i ∧ T s = false ∧ ∀ q : Int, a ≤ q → q < s → T q = true := by
  obtain ⟨s, s0, s1, s2, s3⟩ := nx_t (T := fun q => !T q) (i - a).toNat a i (by omega) (by show (!T i) = true; rw [hi]; rfl)
  refine ⟨s, s0, s1, ?_, fun q q0 q1 => ?_⟩
  · cases e : T s with
    | false => rfl
    | true => simp [e] at s2
  · have := s3 q q0 q1
    cases e : T q with
    | true => rfl
    | false => simp [e] at this
section
variable {c bd : Int32} {rows drawn passed work inner crn rfr rto par cel opn rst : Nat → Int32}
variable {post : Int32 → SX → Prop}
theorem xx_p35 {T : Int → Int → Bool} (hO : SO T) {J5 : Int32 → Int32 → (Nat → Int32) → (Nat → Int32) → (Nat → Int32) → (Nat → Int32) → (Nat → Int32) → (Nat → Int32) → (Nat → Int32) → (Nat → Int32) → (Nat → Int32) → (Nat → Int32) → (Nat → Int32) → (Nat → Int32) → Prop} {x1 x2 : Int32} {jc : Int} (hj : 0 ≤ jc ∧ jc ≤ 24) {st : Int → Int}
    (hJ : ∀ (n : Int) (F G jr : Int → Int) (rfr rto par cel opn : Nat → Int32), n ≤ 13 * jc + 13 → PB T (jc + 1) 0 n F G jr (upf st (jc + 1) n) rfr rto par cel opn (upd rst (jc + 1).toNat (jI n)) → J5 (jI n) (jI (jc + 1)) rows drawn passed work inner crn rfr rto par cel opn rst) :
    ∀ (m : Nat) (n at' : Int) (F G jr : Int → Int) (rfr rto par cel opn : Nat → Int32), 26 ≤ at' + m → 0 ≤ at' → at' ≤ 25 → PB T jc at' n F G jr st rfr rto par cel opn rst →
      wX_pieces_35 post J5 x1 x2 (jI jc) (wd (fun i => T i jc)) c bd m (jI n) (jI at') rows drawn passed work inner crn rfr rto par cel opn rst := by
  intro m
  induction m with
  | zero => intro n at' F G jr rfr rto par cel opn h; omega
  | succ m ih =>
    intro n at' F G jr rfr rto par cel opn hm h0 h25 hP
    have hn0 := hP.2.2.2.2.2.1
    have hnb : 2 * (n - 13 * jc) ≤ at' + 1 := by
      rcases hP.2.2.2.2.2.2 with z | z <;> omega
    rw [wX_pieces_35]
    have hsh : (((wd (fun i => T i jc)).toUInt32 >>> ((jI at').toUInt32 &&& Int32.toUInt32 31)).toInt32 = jI 0) ↔ ∀ i : Int, at' ≤ i → T i jc = false := by
      rw [wd_ushr _ (by omega), wd_eq0]
      constructor
      · intro hz i hi
        by_cases w : i < 25
        · have := hz (i - at') (by omega) (by omega)
          rw [decide_eq_true (by omega), Bool.true_and, show i - at' + at' = i by omega] at this
          exact this
        · exact hO _ _ (by omega)
      · intro hz i i0 i1
        rw [hz (i + at') (by omega), Bool.and_false]
    simp (disch := omega) only [jl_0, jl_1, jl_2, jl_3, jl_4, jl_5, jl_6, jl_7, jl_8, jl_9, jl_12, jl_13, jl_16, jl_24, jl_25, jl_50, jl_168, jl_169, jl_624, jl_625, jl_1000, jI_add, jI_sub, jI_mul, jI_neg, jI_div, ie_mod, jI_leT, jI_leF, jI_ltT, jI_ltF, jI_eqT, jI_eqF, jI_cl, jI_inT, forall_eq, true_implies, false_implies, implies_true, not_true_eq_false, not_false_eq_true, true_and, and_true, b2_0, b2_z, hsh]
    refine br_c (fun hz => ?_) (fun hz => ?_)
    · refine hJ n F G jr rfr rto par cel opn (by omega) ⟨hP.1, hP.2.1, fun j j0 j1 => ?_, fun i j hT hij => ?_, fun k k0 k1 => ?_, hn0, Or.inl ⟨rfl, by omega⟩⟩
      · by_cases w : j = jc + 1
        · subst w
          rw [upf_s, up_s]
          refine ⟨rfl, hn0, by omega, fun k k0 k1 => ?_⟩
          rcases hP.2.2.2.2.1 k k0 k1 with q | q <;> omega
        · rw [upf_n st (by omega), up_n (by omega)]
          exact hP.2.2.1 j j0 (by omega)
      · refine hP.2.2.2.1 i j hT ?_
        by_cases w : j < jc
        · exact Or.inl w
        · have ej : j = jc := by
            rcases hij with q | q
            · omega
            · have := hO i j
              by_cases w2 : 0 ≤ i ∧ i < 25 ∧ 0 ≤ j ∧ j < 25
              · omega
              · rw [hO i j w2] at hT; cases hT
          refine Or.inr ⟨ej, ?_⟩
          apply Classical.byContradiction
          intro q
          rw [ej, hz i (by omega)] at hT
          cases hT
      · rcases hP.2.2.2.2.1 k k0 k1 with q | q
        · exact Or.inl (by omega)
        · exact Or.inl (by omega)
    · have hex : ∃ i : Int, at' ≤ i ∧ T i jc = true := by
        apply Classical.byContradiction
        intro w
        refine hz (fun i hi => ?_)
        cases e : T i jc with
        | false => rfl
        | true => exact absurd ⟨i, hi, e⟩ w
      obtain ⟨i, hi, hT⟩ := hex
      have hi25 : i < 25 := by
        apply Classical.byContradiction
        intro w
        rw [hO i jc (by omega)] at hT
        cases hT
      obtain ⟨s, s0, s1, s2, s3⟩ := nx_t (T := fun i => T i jc) (i - at').toNat at' i (by omega) hT
      obtain ⟨e, e0, e1, e2, e3⟩ := nx_f (T := fun i => T i jc) s 25 (by omega) (hO _ _ (by omega))
      have hse : s < e := by
        apply Classical.byContradiction
        intro w
        have : e = s := by omega
        rw [this] at e2
        rw [e2] at s2
        cases s2
      have hPB := pb_ext hP hO hj h0 s0 hse e1 s3 e3 e2
      have hc0 := rc0_r T s (e - 1) jc
      have hgo := ih (n + 1) e _ _ _ _ _ _ _ _ (by omega) (by omega) e1 hPB
      have hbits : ∀ q : Int, at' ≤ q → q ≤ 25 → (((wd (fun i => T i jc)).toUInt32 >>> ((jI q).toUInt32 &&& Int32.toUInt32 31)).toInt32 &&& jI 1) = b2 (T q jc) := fun q q0 q1 => wd_ubit _ (by omega)
      refine lj_a (fun n43 q (_ : Unit) => wX_pieces_43 post J5 (wX_pieces_35 post J5 x1 x2 (jI jc) (wd (fun i => T i jc)) c bd m) x1 x2 (jI n) (jI jc) (wd (fun i => T i jc)) c bd rows drawn passed work inner crn rfr rto par cel opn rst n43 (jI q)) (fun _ => ()) at' s rfl s0 (fun n43 => ?_) (fun n43 q q0 q1 ih2 => ?_)
      · have hs := hbits s s0 (by omega)
        rw [show T s jc = true from s2] at hs
        simp (disch := omega) only [wX_pieces_43, jl_0, jl_1, jl_2, jl_3, jl_4, jl_5, jl_6, jl_7, jl_8, jl_9, jl_12, jl_13, jl_16, jl_24, jl_25, jl_50, jl_168, jl_169, jl_624, jl_625, jl_1000, jI_add, jI_sub, jI_mul, jI_neg, jI_div, ie_mod, jI_leT, jI_leF, jI_ltT, jI_ltF, jI_eqT, jI_eqF, jI_cl, jI_inT, forall_eq, true_implies, false_implies, implies_true, not_true_eq_false, not_false_eq_true, true_and, and_true, b2_0, b2_z, hs, b2_T, jI_b8, jI_nb]
        refine lj_a (fun n68 q (_ : Unit) => wX_pieces_68 post J5 (wX_pieces_35 post J5 x1 x2 (jI jc) (wd (fun i => T i jc)) c bd m) x1 x2 (jI n) (jI jc) (wd (fun i => T i jc)) c bd rows drawn passed work inner crn (upd rfr n.toNat (jI s)) rto par cel opn rst n68 (jI q)) (fun _ => ()) s e rfl e0 (fun n68 => ?_) (fun n68 q q0 q1 ih3 => ?_)
        · have he := hbits e (by omega) e1
          rw [show T e jc = false from e2] at he
          have key : ∀ z0 : Bool, z0 = fr0 s (e - 1) jc → wX_pieces_141 post J5 (wX_pieces_35 post J5 x1 x2 (jI jc) (wd (fun i => T i jc)) c bd m) x1 x2 (jI n) (jI jc) (wd (fun i => T i jc)) (jI e) (b2 z0) (jI n) c bd rows drawn passed work inner crn (upd rfr n.toNat (jI s)) (upd rto n.toNat (jI (e - 1))) (upd par n.toNat (jI n)) cel opn rst := by
            intro z0 hz0
            have en : n + 1 - 1 = n := by omega
            simp (disch := omega) only [wX_pieces_141, jl_0, jl_1, jl_2, jl_3, jl_4, jl_5, jl_6, jl_7, jl_8, jl_9, jl_12, jl_13, jl_16, jl_24, jl_25, jl_50, jl_168, jl_169, jl_624, jl_625, jl_1000, jI_add, jI_sub, jI_mul, jI_neg, jI_div, ie_mod, jI_leT, jI_leF, jI_ltT, jI_ltF, jI_eqT, jI_eqF, jI_cl, jI_inT, forall_eq, true_implies, false_implies, implies_true, not_true_eq_false, not_false_eq_true, true_and, and_true, b2_0, b2_z, en, up_s, xx_bits, wd_and, wd_mA, jI_a1, b2_nar]
            refine xx_cnt ?_
            simp only [jI_mul]
            have ec : jc % 2 * cn (fun i => (T i jc && decide (s ≤ i ∧ i ≤ e - 1)) && decide (i % 2 = 1 ∧ i < 24)) 32 = rc0 T s (e - 1) jc := rfl
            rw [ec, hz0]
            simp (disch := omega) only [jl_0, jl_1, jl_2, jl_3, jl_4, jl_5, jl_6, jl_7, jl_8, jl_9, jl_12, jl_13, jl_16, jl_24, jl_25, jl_50, jl_168, jl_169, jl_624, jl_625, jl_1000, jI_add, jI_sub, jI_mul, jI_neg, jI_div, ie_mod, jI_leT, jI_leF, jI_ltT, jI_ltF, jI_eqT, jI_eqF, jI_cl, jI_inT, forall_eq, true_implies, false_implies, implies_true, not_true_eq_false, not_false_eq_true, true_and, and_true, b2_0, b2_z, jI_s16, jI_ns]
            exact hgo
          by_cases w0 : s = 0
          · simp (disch := omega) only [wX_pieces_68, wX_pieces_136, jl_0, jl_1, jl_2, jl_3, jl_4, jl_5, jl_6, jl_7, jl_8, jl_9, jl_12, jl_13, jl_16, jl_24, jl_25, jl_50, jl_168, jl_169, jl_624, jl_625, jl_1000, jI_add, jI_sub, jI_mul, jI_neg, jI_div, ie_mod, jI_leT, jI_leF, jI_ltT, jI_ltF, jI_eqT, jI_eqF, jI_cl, jI_inT, forall_eq, true_implies, false_implies, implies_true, not_true_eq_false, not_false_eq_true, true_and, and_true, b2_0, b2_z, he, b2_F, jI_b8, jI_nb, jI_s16, jI_ns, up_s]
            exact key true (decide_eq_true (by omega)).symm
          · by_cases w1 : e = 25
            · simp (disch := omega) only [wX_pieces_68, wX_pieces_136, jl_0, jl_1, jl_2, jl_3, jl_4, jl_5, jl_6, jl_7, jl_8, jl_9, jl_12, jl_13, jl_16, jl_24, jl_25, jl_50, jl_168, jl_169, jl_624, jl_625, jl_1000, jI_add, jI_sub, jI_mul, jI_neg, jI_div, ie_mod, jI_leT, jI_leF, jI_ltT, jI_ltF, jI_eqT, jI_eqF, jI_cl, jI_inT, forall_eq, true_implies, false_implies, implies_true, not_true_eq_false, not_false_eq_true, true_and, and_true, b2_0, b2_z, he, b2_F, jI_b8, jI_nb, jI_s16, jI_ns, up_s]
              exact key true (decide_eq_true (by omega)).symm
            · by_cases w2 : jc = 0
              · simp (disch := omega) only [wX_pieces_68, wX_pieces_136, jl_0, jl_1, jl_2, jl_3, jl_4, jl_5, jl_6, jl_7, jl_8, jl_9, jl_12, jl_13, jl_16, jl_24, jl_25, jl_50, jl_168, jl_169, jl_624, jl_625, jl_1000, jI_add, jI_sub, jI_mul, jI_neg, jI_div, ie_mod, jI_leT, jI_leF, jI_ltT, jI_ltF, jI_eqT, jI_eqF, jI_cl, jI_inT, forall_eq, true_implies, false_implies, implies_true, not_true_eq_false, not_false_eq_true, true_and, and_true, b2_0, b2_z, he, b2_F, jI_b8, jI_nb, jI_s16, jI_ns, up_s]
                exact key true (decide_eq_true (by omega)).symm
              · by_cases w3 : jc = 24
                · simp (disch := omega) only [wX_pieces_68, wX_pieces_136, jl_0, jl_1, jl_2, jl_3, jl_4, jl_5, jl_6, jl_7, jl_8, jl_9, jl_12, jl_13, jl_16, jl_24, jl_25, jl_50, jl_168, jl_169, jl_624, jl_625, jl_1000, jI_add, jI_sub, jI_mul, jI_neg, jI_div, ie_mod, jI_leT, jI_leF, jI_ltT, jI_ltF, jI_eqT, jI_eqF, jI_cl, jI_inT, forall_eq, true_implies, false_implies, implies_true, not_true_eq_false, not_false_eq_true, true_and, and_true, b2_0, b2_z, he, b2_F, jI_b8, jI_nb, jI_s16, jI_ns, up_s]
                  exact key true (decide_eq_true (by omega)).symm
                · simp (disch := omega) only [wX_pieces_68, wX_pieces_136, jl_0, jl_1, jl_2, jl_3, jl_4, jl_5, jl_6, jl_7, jl_8, jl_9, jl_12, jl_13, jl_16, jl_24, jl_25, jl_50, jl_168, jl_169, jl_624, jl_625, jl_1000, jI_add, jI_sub, jI_mul, jI_neg, jI_div, ie_mod, jI_leT, jI_leF, jI_ltT, jI_ltF, jI_eqT, jI_eqF, jI_cl, jI_inT, forall_eq, true_implies, false_implies, implies_true, not_true_eq_false, not_false_eq_true, true_and, and_true, b2_0, b2_z, he, b2_F, jI_b8, jI_nb, jI_s16, jI_ns, up_s]
                  exact key false (decide_eq_false (by omega)).symm
        · have hq := hbits q (by omega) (by omega)
          rw [show T q jc = true from e3 q q0 q1] at hq
          simp (disch := omega) only [wX_pieces_68, jl_0, jl_1, jl_2, jl_3, jl_4, jl_5, jl_6, jl_7, jl_8, jl_9, jl_12, jl_13, jl_16, jl_24, jl_25, jl_50, jl_168, jl_169, jl_624, jl_625, jl_1000, jI_add, jI_sub, jI_mul, jI_neg, jI_div, ie_mod, jI_leT, jI_leF, jI_ltT, jI_ltF, jI_eqT, jI_eqF, jI_cl, jI_inT, forall_eq, true_implies, false_implies, implies_true, not_true_eq_false, not_false_eq_true, true_and, and_true, b2_0, b2_z, hq, b2_T]
          exact ih3
      · have hq := hbits q q0 (by omega)
        rw [show T q jc = false from s3 q q0 q1] at hq
        simp (disch := omega) only [wX_pieces_43, jl_0, jl_1, jl_2, jl_3, jl_4, jl_5, jl_6, jl_7, jl_8, jl_9, jl_12, jl_13, jl_16, jl_24, jl_25, jl_50, jl_168, jl_169, jl_624, jl_625, jl_1000, jI_add, jI_sub, jI_mul, jI_neg, jI_div, ie_mod, jI_leT, jI_leF, jI_ltT, jI_ltF, jI_eqT, jI_eqF, jI_cl, jI_inT, forall_eq, true_implies, false_implies, implies_true, not_true_eq_false, not_false_eq_true, true_and, and_true, b2_0, b2_z, hq, b2_F]
        exact ih2
end
end
section
/-! ===== joined runs ===== -/
def CF (T : Int → Int → Bool) (f : Int → Int → Int) : Prop :=
  (∀ i j : Int, T i j = true → T (i + 1) j = true → f i j = f (i + 1) j) ∧ (∀ i j : Int, T i j = true → T i (j + 1) = true → f i j = f i (j + 1))
theorem cf_run {T : Int → Int → Bool} {f : Int → Int → Int} (hf : CF T f) {s e j : Int} (h : ∀ i : Int, s ≤ i → i ≤ e → T i j = true) : ∀ (d : Nat) (i : Int), i = s + d → i ≤ e → f i j = f s j := by
  intro d
  induction d with
  | zero => intro i hi _; rw [show i = s by omega]
  | succ d ih =>
    intro i hi he
    have h1 := ih (i - 1) (by omega) (by omega)
    have h2 := hf.1 (i - 1) j (h _ (by omega) (by omega)) (by rw [show i - 1 + 1 = i by omega]; exact h _ (by omega) he)
    rw [show i - 1 + 1 = i by omega] at h2
    rw [← h2, h1]
def UF (n : Int) (p rt : Int → Int) (dp : Int → Nat) (par : Nat → Int32) : Prop :=
  ∀ k : Int, 0 ≤ k → k < n → par k.toNat = jI (p k) ∧ (0 ≤ p k ∧ p k < n) ∧ rt (p k) = rt k ∧ (0 ≤ rt k ∧ rt k < n) ∧ p (rt k) = rt k ∧ rt (rt k) = rt k ∧ (p k = k → rt k = k) ∧ (p k ≠ k → dp (p k) < dp k)
section
variable {c bd : Int32} {rows drawn passed work inner crn rfr rto par cel opn rst : Nat → Int32}
theorem xx_root {post : Int32 → SX → Prop} {n : Int} {rt : Int → Int} {dp : Int → Nat} (hn : n ≤ 325) {k : Int} 
    (h : ∀ (p' : Int → Int) (par' : Nat → Int32), UF n p' rt dp par' → post (jI (rt k)) (c, bd, rows, drawn, passed, work, inner, crn, rfr, rto, par', cel, opn, rst)) :
    ∀ (m : Nat) (r : Int) (p : Int → Int) (par : Nat → Int32), UF n p rt dp par → 0 ≤ r → r < n → rt r = rt k → dp r < m → wX_root_2 post c bd m (jI r) rows drawn passed work inner crn rfr rto par cel opn rst := by
  intro m
  induction m with
  | zero => intro r p par _ _ _ _ hd; omega
  | succ m ih =>
    intro r p par hU r0 r1 hr hd
    obtain ⟨e1, e2, e3, e4, e5, e6, e7, e8⟩ := hU r r0 r1
    by_cases z : p r = r
    · simp (disch := omega) only [wX_root_2, jl_0, jl_1, jl_2, jl_3, jl_4, jl_5, jl_6, jl_7, jl_8, jl_9, jl_12, jl_13, jl_16, jl_24, jl_25, jl_50, jl_168, jl_169, jl_624, jl_625, jl_1000, jI_add, jI_sub, jI_mul, jI_neg, jI_div, ie_mod, jI_leT, jI_leF, jI_ltT, jI_ltF, jI_eqT, jI_eqF, jI_cl, jI_inT, forall_eq, true_implies, false_implies, implies_true, not_true_eq_false, not_false_eq_true, true_and, and_true, b2_0, b2_z, e1]
      have := h p par hU
      rw [← hr, e7 z] at this
      exact this
    · obtain ⟨f1, f2, f3, f4, f5, f6, f7, f8⟩ := hU (p r) e2.1 e2.2
      have hdp := e8 z
      have hdp2 : dp (p (p r)) ≤ dp (p r) := by
        by_cases w : p (p r) = p r
        · rw [w]; omega
        · have := f8 w; omega
      simp (disch := omega) only [wX_root_2, jl_0, jl_1, jl_2, jl_3, jl_4, jl_5, jl_6, jl_7, jl_8, jl_9, jl_12, jl_13, jl_16, jl_24, jl_25, jl_50, jl_168, jl_169, jl_624, jl_625, jl_1000, jI_add, jI_sub, jI_mul, jI_neg, jI_div, ie_mod, jI_leT, jI_leF, jI_ltT, jI_ltF, jI_eqT, jI_eqF, jI_cl, jI_inT, forall_eq, true_implies, false_implies, implies_true, not_true_eq_false, not_false_eq_true, true_and, and_true, b2_0, b2_z, e1, f1, jI_ns, up_s]
      refine ih (p (p r)) (upf p r (p (p r))) _ ?_ f2.1 f2.2 (by rw [f3, e3, hr]) (by omega)
      intro q q0 q1
      obtain ⟨g1, g2, g3, g4, g5, g6, g7, g8⟩ := hU q q0 q1
      have hrq : rt q ≠ r := fun w => z (by rw [← w]; exact g5)
      by_cases w : q = r
      · subst w
        rw [upf_s, up_s]
        refine ⟨rfl, f2, by rw [f3, e3], e4, by rw [show upf p q (p (p q)) (rt q) = p (rt q) from if_neg hrq]; exact e5, e6, fun w => ?_, fun _ => by omega⟩
        have : dp (p (p q)) = dp q := by rw [w]
        omega
      · rw [show upf p r (p (p r)) q = p q from if_neg w, up_n (by omega), show upf p r (p (p r)) (rt q) = p (rt q) from if_neg hrq]
        exact ⟨g1, g2, g3, g4, g5, g6, g7, g8⟩
end
/-- the joined sets -/
def jn (rt : Int → Int) (a b : Int) : Int → Int := fun k => if rt k = b then a else rt k
theorem jn_id {rt : Int → Int} {a b : Int} (h : a = b) : jn rt a b = rt := by
  funext k
  unfold jn
  by_cases w : rt k = b
  · rw [if_pos w, h, w]
  · rw [if_neg w]
def cc (T : Int → Int → Bool) (rn : Int → Int → Int) (rt : Int → Int) (r : Int) : Int := cn (fun m => (T (m / 25) (m % 25) && decide (m / 25 % 2 = 1 ∧ m % 25 % 2 = 1)) && decide (rt (rn (m / 25) (m % 25)) = r)) 625
def oo (T : Int → Int → Bool) (rn : Int → Int → Int) (rt : Int → Int) (r : Int) : Prop := ∃ i j : Int, T i j = true ∧ (i = 0 ∨ i = 24 ∨ j = 0 ∨ j = 24) ∧ rt (rn i j) = r
def SND (T : Int → Int → Bool) (n : Int) (F jr rt : Int → Int) : Prop := ∀ f : Int → Int → Int, CF T f → ∀ k : Int, 0 ≤ k → k < n → f (F (rt k)) (jr (rt k)) = f (F k) (jr k)
def JV (T : Int → Int → Bool) (n : Int) (F jr : Int → Int) (rn : Int → Int → Int) (rt : Int → Int) (par cel opn : Nat → Int32) : Prop :=
  (∃ (p : Int → Int) (dp : Int → Nat), UF n p rt dp par) ∧ (∀ r : Int, 0 ≤ r → r < n → rt r = r → cel r.toNat = jI (cc T rn rt r) ∧ opn r.toNat = b2 (ex (oo T rn rt r))) ∧ SND T n F jr rt
theorem cc_r (T : Int → Int → Bool) (rn : Int → Int → Int) (rt : Int → Int) (r : Int) : 0 ≤ cc T rn rt r ∧ cc T rn rt r ≤ 625 := ⟨cn_nn _ _, cn_max _ 625⟩
theorem cc_j (T : Int → Int → Bool) (rn : Int → Int → Int) (rt : Int → Int) {a b : Int} (hab : a ≠ b) : cc T rn (jn rt a b) a = cc T rn rt a + cc T rn rt b := by
  unfold cc
  rw [← cn_or 625 (fun i _ _ => by
    rintro ⟨h1, h2⟩
    rw [Bool.and_eq_true, decide_eq_true_eq] at h1 h2
    exact hab (h1.2.symm.trans h2.2))]
  refine cn_c 625 (fun m _ _ => ?_)
  unfold jn
  generalize (T (m / 25) (m % 25) && decide (m / 25 % 2 = 1 ∧ m % 25 % 2 = 1)) = A
  by_cases w : rt (rn (m / 25) (m % 25)) = b
  · rw [if_pos w, decide_eq_true rfl, decide_eq_true w]; cases A <;> simp
  · rw [if_neg w, decide_eq_false w]; cases A <;> simp
theorem cc_n (T : Int → Int → Bool) (rn : Int → Int → Int) (rt : Int → Int) {a b r : Int} (ha : r ≠ a) (hb : r ≠ b) : cc T rn (jn rt a b) r = cc T rn rt r := by
  unfold cc
  refine cn_c 625 (fun m _ _ => ?_)
  unfold jn
  congr 1
  by_cases w : rt (rn (m / 25) (m % 25)) = b
  · rw [if_pos w, decide_eq_false (fun z => ha z.symm), decide_eq_false (fun z => hb (z.symm.trans w))]
  · rw [if_neg w]
theorem oo_j (T : Int → Int → Bool) (rn : Int → Int → Int) (rt : Int → Int) {a b : Int} : oo T rn (jn rt a b) a ↔ oo T rn rt a ∨ oo T rn rt b := by
  unfold oo jn
  constructor
  · rintro ⟨i, j, h1, h2, h3⟩
    by_cases w : rt (rn i j) = b
    · exact Or.inr ⟨i, j, h1, h2, w⟩
    · rw [if_neg w] at h3
      exact Or.inl ⟨i, j, h1, h2, h3⟩
  · rintro (⟨i, j, h1, h2, h3⟩ | ⟨i, j, h1, h2, h3⟩)
    · refine ⟨i, j, h1, h2, ?_⟩
      by_cases w : rt (rn i j) = b
      · rw [if_pos w]
      · rw [if_neg w]; exact h3
    · exact ⟨i, j, h1, h2, if_pos h3⟩
theorem oo_n (T : Int → Int → Bool) (rn : Int → Int → Int) (rt : Int → Int) {a b r : Int} (ha : r ≠ a) (hb : r ≠ b) : oo T rn (jn rt a b) r ↔ oo T rn rt r := by
  unfold oo jn
  constructor
  · rintro ⟨i, j, h1, h2, h3⟩
    by_cases w : rt (rn i j) = b
    · rw [if_pos w] at h3; exact absurd h3.symm ha
    · rw [if_neg w] at h3
      exact ⟨i, j, h1, h2, h3⟩
  · rintro ⟨i, j, h1, h2, h3⟩
    exact ⟨i, j, h1, h2, by rw [if_neg (fun w => hb (h3.symm.trans w))]; exact h3⟩
theorem snd_j {T : Int → Int → Bool} {n : Int} {F jr rt : Int → Int} (h : SND T n F jr rt) {p q : Int} (hp : 0 ≤ p ∧ p < n) (hq : 0 ≤ q ∧ q < n) (hc : ∀ f : Int → Int → Int, CF T f → f (F p) (jr p) = f (F q) (jr q)) : SND T n F jr (jn rt (rt p) (rt q)) := by
  intro f hf k k0 k1
  unfold jn
  by_cases w : rt k = rt q
  · rw [if_pos w, h f hf p hp.1 hp.2, hc f hf, ← h f hf q hq.1 hq.2, ← w]
    exact h f hf k k0 k1
  · rw [if_neg w]
    exact h f hf k k0 k1
theorem uf_j {n : Int} {p rt : Int → Int} {dp : Int → Nat} {par : Nat → Int32} (h : UF n p rt dp par) {a b : Int} (ha : 0 ≤ a ∧ a < n) (hb : 0 ≤ b ∧ b < n) (ra : rt a = a) (rb : rt b = b) (hab : a ≠ b) :
    UF n (upf p b a) (jn rt a b) (fun k => dp k + (if rt k = b then dp a + 1 else 0)) (upd par b.toNat (jI a)) := by
  intro k k0 k1
  obtain ⟨e1, e2, e3, e4, e5, e6, e7, e8⟩ := h k k0 k1
  have pa : p a = a := by
    have := (h a ha.1 ha.2).2.2.2.2.1
    rw [ra] at this
    exact this
  have hrt : jn rt a b k = a ∨ (jn rt a b k = rt k ∧ rt k ≠ b) := by
    unfold jn
    by_cases w : rt k = b
    · rw [if_pos w]; exact Or.inl rfl
    · rw [if_neg w]; exact Or.inr ⟨rfl, w⟩
  have jna : jn rt a b a = a := by
    unfold jn
    rw [ra, if_neg hab]
  by_cases w : k = b
  · subst w
    rw [upf_s, up_s]
    have jb : jn rt a k k = a := if_pos rb
    rw [jb]
    refine ⟨rfl, ha, jna, ha, by rw [show upf p k a a = p a from if_neg hab]; exact pa, jna, fun z => absurd z hab, fun _ => ?_⟩
    dsimp only
    rw [ra, if_neg hab, if_pos rb]
    omega
  · rw [show upf p b a k = p k from if_neg w, up_n (by omega)]
    refine ⟨e1, e2, ?_, ?_, ?_, ?_, fun z => ?_, fun z => ?_⟩
    · unfold jn; rw [e3]
    · rcases hrt with z | z
      · rw [z]; exact ha
      · rw [z.1]; exact e4
    · rcases hrt with z | z
      · rw [z, show upf p b a a = p a from if_neg hab]; exact pa
      · rw [z.1, show upf p b a (rt k) = p (rt k) from if_neg z.2]; exact e5
    · rcases hrt with z | z
      · rw [z]; exact jna
      · rw [z.1]
        unfold jn
        rw [e6, if_neg z.2]
    · have := e7 z
      unfold jn
      rw [this, if_neg w]
    · have := e8 z
      dsimp only
      rw [e3]
      omega
section
variable {c bd : Int32} {rows drawn passed work inner crn rfr rto par cel opn rst : Nat → Int32}
theorem xx_join {post : SX → Prop} {T : Int → Int → Bool} {n : Int} {F jr : Int → Int} {rn : Int → Int → Int} {rt : Int → Int} (hn : n ≤ 325) (hJ : JV T n F jr rn rt par cel opn) {p q : Int} (hp : 0 ≤ p ∧ p < n) (hq : 0 ≤ q ∧ q < n)
    (hc : ∀ f : Int → Int → Int, CF T f → f (F p) (jr p) = f (F q) (jr q))
    (h : ∀ par' cel' opn', JV T n F jr rn (jn rt (rt p) (rt q)) par' cel' opn' → post (c, bd, rows, drawn, passed, work, inner, crn, rfr, rto, par', cel', opn', rst)) : wpX_join post (c, bd, rows, drawn, passed, work, inner, crn, rfr, rto, par, cel, opn, rst) (jI p) (jI q) := by
  obtain ⟨⟨p0, dp, hU⟩, hV, hS⟩ := hJ
  simp only [wpX_join, wpX_root]
  refine ⟨dp p + 1, xx_root hn (k := p) (fun p1 par1 hU1 => ?_) (dp p + 1) p p0 par hU hp.1 hp.2 rfl (by omega)⟩
  dsimp only
  refine ⟨dp q + 1, xx_root hn (k := q) (fun p2 par2 hU2 => ?_) (dp q + 1) q p1 par1 hU1 hq.1 hq.2 rfl (by omega)⟩
  dsimp only
  have gp := hU2 p hp.1 hp.2
  have gq := hU2 q hq.1 hq.2
  have rp := gp.2.2.2.1
  have rq := gq.2.2.2.1
  by_cases e : rt p = rt q
  · refine br_t (congrArg jI e) ?_
    refine h par2 cel opn ?_
    rw [jn_id e]
    exact ⟨⟨p2, dp, hU2⟩, hV, hS⟩
  · have ca := cc_r T rn rt (rt p)
    have cb := cc_r T rn rt (rt q)
    have va := hV (rt p) rp.1 rp.2 gp.2.2.2.2.2.1
    have vb := hV (rt q) rq.1 rq.2 gq.2.2.2.2.2.1
    simp (disch := omega) only [jl_0, jl_1, jl_2, jl_3, jl_4, jl_5, jl_6, jl_7, jl_8, jl_9, jl_12, jl_13, jl_16, jl_24, jl_25, jl_50, jl_168, jl_169, jl_624, jl_625, jl_1000, jI_add, jI_sub, jI_mul, jI_neg, jI_div, ie_mod, jI_leT, jI_leF, jI_ltT, jI_ltF, jI_eqT, jI_eqF, jI_cl, jI_inT, forall_eq, true_implies, false_implies, implies_true, not_true_eq_false, not_false_eq_true, true_and, and_true, b2_0, b2_z, jI_s16, jI_ns, va.1, va.2, vb.1, vb.2, b2_or, b2_nar]
    refine h _ _ _ ⟨⟨_, _, uf_j hU2 rp rq gp.2.2.2.2.2.1 gq.2.2.2.2.2.1 e⟩, fun r r0 r1 hr => ?_, snd_j hS hp hq hc⟩
    have hrq : r ≠ rt q := by
      intro w
      rw [w] at hr
      unfold jn at hr
      rw [gq.2.2.2.2.2.1, if_pos rfl] at hr
      exact e hr
    by_cases w : r = rt p
    · subst w
      rw [up_s, up_s, cc_j T rn rt e]
      refine ⟨rfl, ?_⟩
      rw [ex_or]
      exact congrArg b2 (ex_c (oo_j T rn rt).symm)
    · have hr' : rt r = r := by
        unfold jn at hr
        by_cases z : rt r = rt q
        · rw [if_pos z] at hr; exact absurd hr.symm w
        · rw [if_neg z] at hr; exact hr
      rw [up_n (by omega), up_n (by omega), cc_n T rn rt w hrq, ex_c (oo_n T rn rt w hrq)]
      exact hV r r0 r1 hr'
end
end
section
theorem tb_lt {T : Int → Int → Bool} {n : Int} {F G jr : Int → Int} (h : TB T n F G jr) : ∀ (d : Nat) (k : Int), 0 ≤ k → k + 1 + d < n → jr k < jr (k + 1 + d) ∨ (jr k = jr (k + 1 + d) ∧ G k + 1 < F (k + 1 + d)) := by
  intro d
  induction d with
  | zero =>
    intro k k0 k1
    rw [show k + 1 + ((0 : Nat) : Int) = k + 1 by omega] at *
    exact h.2 k k0 k1
  | succ d ih =>
    intro k k0 k1
    have a := ih k k0 (by omega)
    have b := h.2 (k + 1 + d) (by omega) (by omega)
    rw [show k + 1 + (d : Int) + 1 = k + 1 + ((d + 1 : Nat) : Int) by omega] at b
    have c := (h.1 (k + 1 + d) (by omega) (by omega)).2.1
    rcases a with a | a <;> rcases b with b | b
    · exact Or.inl (by omega)
    · exact Or.inl (by omega)
    · exact Or.inl (by omega)
    · exact Or.inr ⟨by omega, by omega⟩
theorem tb_o {T : Int → Int → Bool} {n : Int} {F G jr : Int → Int} (h : TB T n F G jr) {k k' : Int} (k0 : 0 ≤ k) (hk : k < k') (k1 : k' < n) : jr k < jr k' ∨ (jr k = jr k' ∧ G k + 1 < F k') := by
  have := tb_lt h (k' - k - 1).toNat k k0 (by omega)
  rw [show k + 1 + (((k' - k - 1).toNat : Nat) : Int) = k' by omega] at this
  exact this
theorem tb_u {T : Int → Int → Bool} {n : Int} {F G jr : Int → Int} (h : TB T n F G jr) {k k' i : Int} (k0 : 0 ≤ k) (k1 : k < n) (k0' : 0 ≤ k') (k1' : k' < n) (hj : jr k = jr k') (a : F k ≤ i ∧ i ≤ G k) (b : F k' ≤ i ∧ i ≤ G k') : k = k' := by
  rcases Int.lt_trichotomy k k' with w | w | w
  · have := tb_o h k0 w k1'; omega
  · exact w
  · have := tb_o h k0' w k1; omega
def RN (T : Int → Int → Bool) (n : Int) (F G jr : Int → Int) (rn : Int → Int → Int) : Prop := ∀ i j : Int, T i j = true → (0 ≤ rn i j ∧ rn i j < n) ∧ jr (rn i j) = j ∧ F (rn i j) ≤ i ∧ i ≤ G (rn i j)
theorem rn_ex {T : Int → Int → Bool} (hO : SO T) {n : Int} {F G jr : Int → Int} (h : TC T 25 0 n F G jr) : ∃ rn, RN T n F G jr rn := by
  have key : ∀ i j : Int, ∃ k : Int, T i j = true → (0 ≤ k ∧ k < n) ∧ jr k = j ∧ F k ≤ i ∧ i ≤ G k := by
    intro i j
    by_cases hT : T i j = true
    · have hin : j < 25 := by
        apply Classical.byContradiction
        intro w
        rw [hO i j (by omega)] at hT
        cases hT
      obtain ⟨k, k0, k1, k2, k3⟩ := h.1 i j hT (Or.inl hin)
      exact ⟨k, fun _ => ⟨⟨k0, k1⟩, k2, k3⟩⟩
    · exact ⟨0, fun z => absurd z hT⟩
  exact ⟨fun i j => Classical.choose (key i j), fun i j => Classical.choose_spec (key i j)⟩
theorem rn_u {T : Int → Int → Bool} {n : Int} {F G jr : Int → Int} {rn : Int → Int → Int} (h : TB T n F G jr) (hr : RN T n F G jr rn) {k i : Int} (k0 : 0 ≤ k) (k1 : k < n) (a : F k ≤ i ∧ i ≤ G k) : rn i (jr k) = k := by
  have hT := (h.1 k k0 k1).2.2.2.2.2.1 i a.1 a.2
  obtain ⟨b1, b2, b3⟩ := hr i (jr k) hT
  exact tb_u h b1.1 b1.2 k0 k1 b2 b3 a
theorem sm_one {f : Int → Int} {j0 : Int} : ∀ n : Nat, 0 ≤ j0 → j0 < n → (∀ j : Int, 0 ≤ j → j < n → j ≠ j0 → f j = 0) → sm f n = f j0 := by
  intro n
  induction n with
  | zero => intro a b; omega
  | succ n ih =>
    intro a b h
    show sm f n + f n = f j0
    by_cases w : j0 = n
    · subst w
      rw [sm_z n (fun i i0 i1 => h i i0 (by omega) (by omega))]
      omega
    · rw [ih a (by omega) (fun j j1 j2 j3 => h j j1 (by omega) j3), h n (by omega) (by omega) (by omega)]
      omega
theorem cc_0 {T : Int → Int → Bool} (hO : SO T) {n : Int} {F G jr : Int → Int} {rn : Int → Int → Int} (h : TB T n F G jr) (hr : RN T n F G jr rn) {k : Int} (k0 : 0 ≤ k) (k1 : k < n) : rc0 T (F k) (G k) (jr k) = cc T rn (fun k => k) k := by
  have hR := h.1 k k0 k1
  obtain ⟨r1, r2, r3, r4, r5, r6, r7, r8⟩ := hR
  have e1 : cc T rn (fun k => k) k = sm (fun j => cn (fun i => (T i j && decide (i % 2 = 1 ∧ j % 2 = 1)) && decide (rn i j = k)) 25) 25 := by
    have a := sm_25 (fun i j => o1 ((T i j && decide (i % 2 = 1 ∧ j % 2 = 1)) && decide (rn i j = k))) 25
    rw [sm_x] at a
    exact a
  rw [e1, sm_one (j0 := jr k) 25 r4 (by omega) (fun j j0 j1 j2 => cn_0 25 (fun i i0 i1 => ?_))]
  · have e2 : ∀ i : Int, T i (jr k) = true → decide (rn i (jr k) = k) = decide (F k ≤ i ∧ i ≤ G k) := by
      intro i hT
      refine decide_eq_decide.mpr ⟨fun w => ?_, fun w => rn_u h hr k0 k1 w⟩
      have := hr i (jr k) hT
      rw [w] at this
      exact this.2.2
    unfold rc0
    rcases (show jr k % 2 = 0 ∨ jr k % 2 = 1 by omega) with w | w
    · rw [w, Int.zero_mul]
      refine (cn_0 25 (fun i i0 i1 => ?_)).symm
      rw [decide_eq_false (by omega)]; simp
    · rw [w, Int.one_mul]
      have e3 : cn (fun i => (T i (jr k) && decide (F k ≤ i ∧ i ≤ G k)) && decide (i % 2 = 1 ∧ i < 24)) 32 = cn (fun i => (T i (jr k) && decide (F k ≤ i ∧ i ≤ G k)) && decide (i % 2 = 1 ∧ i < 24)) 25 :=
        cn_ext (m := 25) 7 (fun i hi => by rw [hO i (jr k) (by omega)]; rfl)
      rw [e3]
      refine cn_c 25 (fun i i0 i1 => ?_)
      cases hT : T i (jr k) with
      | false => simp
      | true =>
        rw [e2 i hT, show decide (i % 2 = 1 ∧ i < 24) = decide (i % 2 = 1 ∧ (1 : Int) = 1) from decide_eq_decide.mpr (by omega)]
        simp only [Bool.true_and]
        exact Bool.and_comm _ _
  · cases hT : T i j with
    | false => simp
    | true =>
      have := hr i j hT
      have hne : ¬ rn i j = k := fun w => j2 (by rw [← this.2.1, w])
      rw [decide_eq_false hne]; simp
theorem jv_0 {T : Int → Int → Bool} (hO : SO T) {n : Int} {F G jr : Int → Int} {rn : Int → Int → Int} {rfr rto par cel opn : Nat → Int32} (h : TB T n F G jr) (hr : RN T n F G jr rn) (hA : TA T n F G jr rfr rto par cel opn) : JV T n F jr rn (fun k => k) par cel opn := by
  refine ⟨⟨fun k => k, fun _ => 0, fun k k0 k1 => ⟨(hA k k0 k1).2.2.1, ⟨k0, k1⟩, rfl, ⟨k0, k1⟩, rfl, rfl, fun _ => rfl, fun z => absurd rfl z⟩⟩, fun r r0 r1 _ => ⟨?_, ?_⟩, fun f _ k _ _ => rfl⟩
  · rw [(hA r r0 r1).2.2.2.1, cc_0 hO h hr r0 r1]
  · rw [(hA r r0 r1).2.2.2.2]
    obtain ⟨q1, q2, q3, q4, q5, q6, q7, q8⟩ := h.1 r r0 r1
    refine congrArg b2 ?_
    unfold fr0
    rw [ex_d]
    refine ex_c ⟨fun w => ?_, ?_⟩
    · by_cases w1 : G r = 24
      · exact ⟨G r, jr r, q6 _ q2 (by omega), by omega, rn_u h hr r0 r1 ⟨q2, by omega⟩⟩
      · exact ⟨F r, jr r, q6 _ (by omega) q2, by omega, rn_u h hr r0 r1 ⟨by omega, q2⟩⟩
    · rintro ⟨i, j, hT, hf, hrn⟩
      have := hr i j hT
      dsimp only at hrn
      rw [hrn] at this
      omega
/-! ===== joining rows ===== -/
def DN (n : Int) (F G jr rt : Int → Int) (j p q : Int) : Prop := ∀ p' q' : Int, 0 ≤ p' → p' < n → 0 ≤ q' → q' < n → jr p' + 1 = jr q' → F p' ≤ G q' → F q' ≤ G p' → (jr q' < j ∨ (jr q' = j ∧ (p' < p ∨ q' < q))) → rt p' = rt q'
theorem dn_j {n : Int} {F G jr rt : Int → Int} {j p q a b : Int} (h : DN n F G jr rt j p q) : DN n F G jr (jn rt a b) j p q := by
  intro p' q' a1 a2 a3 a4 a5 a6 a7 a8
  unfold jn
  rw [h p' q' a1 a2 a3 a4 a5 a6 a7 a8]
section
variable {c bd : Int32} {rows drawn passed work inner crn rfr rto par cel opn rst : Nat → Int32}
theorem xx_jr16 {post : SX → Prop} {T : Int → Int → Bool} {n : Int} {F G jr st : Int → Int} {rn : Int → Int → Int} (hn : n ≤ 325) (hT : TB T n F G jr) (hA : ∀ k : Int, 0 ≤ k → k < n → rfr k.toNat = jI (F k) ∧ rto k.toNat = jI (G k)) (hS : TS 25 n jr st rst) {j : Int} (hj : 1 ≤ j ∧ j < 25)
    (h : ∀ rt par' cel' opn', JV T n F jr rn rt par' cel' opn' → DN n F G jr rt (j + 1) 0 0 → post (c, bd, rows, drawn, passed, work, inner, crn, rfr, rto, par', cel', opn', rst)) :
    ∀ (m : Nat) (p q : Int) (rt : Int → Int) (par cel opn : Nat → Int32), JV T n F jr rn rt par cel opn → DN n F G jr rt j p q → st (j - 1) ≤ p → p ≤ st j → st j ≤ q → q ≤ st (j + 1) → 2 * n - p - q < m →
      wX_joinRows_16 post (jI j) m (jI p) (jI q) c bd rows drawn passed work inner crn rfr rto par cel opn rst := by
  obtain ⟨s1, s2, s3, s4⟩ := hS (j - 1) (by omega) (by omega)
  obtain ⟨t1, t2, t3, t4⟩ := hS j (by omega) (by omega)
  obtain ⟨u1, u2, u3, u4⟩ := hS (j + 1) (by omega) (by omega)
  intro m
  induction m with
  | zero => intro p q rt par cel opn _ _ _ _ _ _ hm; omega
  | succ m ih =>
    intro p q rt par cel opn hJ hD p0 p1 q0 q1 hm
    have fin : st j ≤ p ∨ st (j + 1) ≤ q → post (c, bd, rows, drawn, passed, work, inner, crn, rfr, rto, par, cel, opn, rst) := by
      intro hpq
      refine h rt par cel opn hJ (fun p' q' a1 a2 a3 a4 a5 a6 a7 a8 => hD p' q' a1 a2 a3 a4 a5 a6 a7 ?_)
      by_cases w : jr q' < j
      · exact Or.inl w
      · refine Or.inr ⟨by omega, ?_⟩
        rcases hpq with z | z
        · have := (t4 p' a1 a2).mpr (by omega); omega
        · have := (u4 q' a3 a4).mpr (by omega); omega
    by_cases c1 : st j ≤ p
    · simp (disch := omega) only [wX_joinRows_16, jl_0, jl_1, jl_2, jl_3, jl_4, jl_5, jl_6, jl_7, jl_8, jl_9, jl_12, jl_13, jl_16, jl_24, jl_25, jl_50, jl_168, jl_169, jl_624, jl_625, jl_1000, jI_add, jI_sub, jI_mul, jI_neg, jI_div, ie_mod, jI_leT, jI_leF, jI_ltT, jI_ltF, jI_eqT, jI_eqF, jI_cl, jI_inT, forall_eq, true_implies, false_implies, implies_true, not_true_eq_false, not_false_eq_true, true_and, and_true, b2_0, b2_z, t1]
      exact fin (Or.inl c1)
    · by_cases c2 : st (j + 1) ≤ q
      · simp (disch := omega) only [wX_joinRows_16, jl_0, jl_1, jl_2, jl_3, jl_4, jl_5, jl_6, jl_7, jl_8, jl_9, jl_12, jl_13, jl_16, jl_24, jl_25, jl_50, jl_168, jl_169, jl_624, jl_625, jl_1000, jI_add, jI_sub, jI_mul, jI_neg, jI_div, ie_mod, jI_leT, jI_leF, jI_ltT, jI_ltF, jI_eqT, jI_eqF, jI_cl, jI_inT, forall_eq, true_implies, false_implies, implies_true, not_true_eq_false, not_false_eq_true, true_and, and_true, b2_0, b2_z, t1, u1]
        exact fin (Or.inr c2)
      · have jp : jr p = j - 1 := by
          have a := (t4 p (by omega) (by omega)).mp (by omega)
          have b := s4 p (by omega) (by omega)
          omega
        have jq : jr q = j := by
          have a := (u4 q (by omega) (by omega)).mp (by omega)
          have b := t4 q (by omega) (by omega)
          omega
        obtain ⟨r1, r2, r3, r4, r5, r6, r7, r8⟩ := hT.1 p (by omega) (by omega)
        obtain ⟨w1, w2, w3, w4, w5, w6, w7, w8⟩ := hT.1 q (by omega) (by omega)
        obtain ⟨ap, bp⟩ := hA p (by omega) (by omega)
        obtain ⟨aq, bq⟩ := hA q (by omega) (by omega)
        have hE : ∀ (rt' : Int → Int) (par cel opn : Nat → Int32), JV T n F jr rn rt' par cel opn → DN n F G jr rt' j p q → (F p ≤ G q → F q ≤ G p → rt' p = rt' q) →
            wX_joinRows_74 post (wX_joinRows_16 post (jI j) m) (jI j) (jI p) (jI q) c bd rows drawn passed work inner crn rfr rto par cel opn rst := by
          intro rt' par cel opn hJ' hD' hpq
          by_cases c3 : G q ≤ G p
          · simp (disch := omega) only [wX_joinRows_74, jl_0, jl_1, jl_2, jl_3, jl_4, jl_5, jl_6, jl_7, jl_8, jl_9, jl_12, jl_13, jl_16, jl_24, jl_25, jl_50, jl_168, jl_169, jl_624, jl_625, jl_1000, jI_add, jI_sub, jI_mul, jI_neg, jI_div, ie_mod, jI_leT, jI_leF, jI_ltT, jI_ltF, jI_eqT, jI_eqF, jI_cl, jI_inT, forall_eq, true_implies, false_implies, implies_true, not_true_eq_false, not_false_eq_true, true_and, and_true, b2_0, b2_z, bp, bq]
            refine ih p (q + 1) rt' par cel opn hJ' (fun p' q' a1 a2 a3 a4 a5 a6 a7 a8 => ?_) p0 p1 (by omega) (by omega) (by omega)
            by_cases z : jr q' < j ∨ (jr q' = j ∧ (p' < p ∨ q' < q))
            · exact hD' p' q' a1 a2 a3 a4 a5 a6 a7 z
            · have eq : q' = q := by omega
              subst eq
              by_cases ep : p' = p
              · subst ep; exact hpq a6 a7
              · have := tb_o hT (show 0 ≤ p by omega) (show p < p' by omega) a2
                omega
          · simp (disch := omega) only [wX_joinRows_74, jl_0, jl_1, jl_2, jl_3, jl_4, jl_5, jl_6, jl_7, jl_8, jl_9, jl_12, jl_13, jl_16, jl_24, jl_25, jl_50, jl_168, jl_169, jl_624, jl_625, jl_1000, jI_add, jI_sub, jI_mul, jI_neg, jI_div, ie_mod, jI_leT, jI_leF, jI_ltT, jI_ltF, jI_eqT, jI_eqF, jI_cl, jI_inT, forall_eq, true_implies, false_implies, implies_true, not_true_eq_false, not_false_eq_true, true_and, and_true, b2_0, b2_z, bp, bq]
            refine ih (p + 1) q rt' par cel opn hJ' (fun p' q' a1 a2 a3 a4 a5 a6 a7 a8 => ?_) (by omega) (by omega) q0 q1 (by omega)
            by_cases z : jr q' < j ∨ (jr q' = j ∧ (p' < p ∨ q' < q))
            · exact hD' p' q' a1 a2 a3 a4 a5 a6 a7 z
            · have ep : p' = p := by omega
              subst ep
              by_cases eq : q' = q
              · subst eq; exact hpq a6 a7
              · have := tb_o hT (show 0 ≤ q by omega) (show q < q' by omega) a4
                omega
        by_cases c4 : G q < F p
        · simp (disch := omega) only [wX_joinRows_16, jl_0, jl_1, jl_2, jl_3, jl_4, jl_5, jl_6, jl_7, jl_8, jl_9, jl_12, jl_13, jl_16, jl_24, jl_25, jl_50, jl_168, jl_169, jl_624, jl_625, jl_1000, jI_add, jI_sub, jI_mul, jI_neg, jI_div, ie_mod, jI_leT, jI_leF, jI_ltT, jI_ltF, jI_eqT, jI_eqF, jI_cl, jI_inT, forall_eq, true_implies, false_implies, implies_true, not_true_eq_false, not_false_eq_true, true_and, and_true, b2_0, b2_z, t1, u1, ap, bq]
          exact hE rt par cel opn hJ hD (fun z => by omega)
        · by_cases c5 : G p < F q
          · simp (disch := omega) only [wX_joinRows_16, jl_0, jl_1, jl_2, jl_3, jl_4, jl_5, jl_6, jl_7, jl_8, jl_9, jl_12, jl_13, jl_16, jl_24, jl_25, jl_50, jl_168, jl_169, jl_624, jl_625, jl_1000, jI_add, jI_sub, jI_mul, jI_neg, jI_div, ie_mod, jI_leT, jI_leF, jI_ltT, jI_ltF, jI_eqT, jI_eqF, jI_cl, jI_inT, forall_eq, true_implies, false_implies, implies_true, not_true_eq_false, not_false_eq_true, true_and, and_true, b2_0, b2_z, t1, u1, ap, bq, aq, bp]
            exact hE rt par cel opn hJ hD (fun _ z => by omega)
          · simp (disch := omega) only [wX_joinRows_16, jl_0, jl_1, jl_2, jl_3, jl_4, jl_5, jl_6, jl_7, jl_8, jl_9, jl_12, jl_13, jl_16, jl_24, jl_25, jl_50, jl_168, jl_169, jl_624, jl_625, jl_1000, jI_add, jI_sub, jI_mul, jI_neg, jI_div, ie_mod, jI_leT, jI_leF, jI_ltT, jI_ltF, jI_eqT, jI_eqF, jI_cl, jI_inT, forall_eq, true_implies, false_implies, implies_true, not_true_eq_false, not_false_eq_true, true_and, and_true, b2_0, b2_z, t1, u1, ap, bq, aq, bp]
            refine xx_join hn hJ ⟨by omega, by omega⟩ ⟨by omega, by omega⟩ (fun f hf => ?_) (fun par' cel' opn' hJ' => ?_)
            · have m1 : F p ≤ max (F p) (F q) ∧ max (F p) (F q) ≤ G p ∧ F q ≤ max (F p) (F q) ∧ max (F p) (F q) ≤ G q := by omega
              have e1 := cf_run hf r6 (max (F p) (F q) - F p).toNat (max (F p) (F q)) (by omega) m1.2.1
              have e2 := cf_run hf w6 (max (F p) (F q) - F q).toNat (max (F p) (F q)) (by omega) m1.2.2.2
              have e3 := hf.2 (max (F p) (F q)) (jr p) (r6 _ m1.1 m1.2.1) (by rw [show jr p + 1 = jr q by omega]; exact w6 _ m1.2.2.1 m1.2.2.2)
              rw [show jr p + 1 = jr q by omega] at e3
              rw [← e1, ← e2, e3]
            · refine hE _ par' cel' opn' hJ' (dn_j hD) (fun _ _ => ?_)
              unfold jn
              rw [if_pos rfl]
              by_cases z : rt p = rt q
              · rw [if_pos z]
              · rw [if_neg z]
end
end
section
/-- what the component's search for pieces leaves -/
def FB (T : Int → Int → Bool) (n : Int) (F G jr st : Int → Int) (rn : Int → Int → Int) (rt : Int → Int) (rfr rto par cel opn rst : Nat → Int32) : Prop :=
  0 ≤ n ∧ n ≤ 325 ∧ TB T n F G jr ∧ (∀ k : Int, 0 ≤ k → k < n → rfr k.toNat = jI (F k) ∧ rto k.toNat = jI (G k)) ∧ TS 25 n jr st rst ∧ RN T n F G jr rn ∧ JV T n F jr rn rt par cel opn ∧ CF T (fun i j => rt (rn i j))
theorem cf_rt {T : Int → Int → Bool} {n : Int} {F G jr rt : Int → Int} {rn : Int → Int → Int} (hT : TB T n F G jr) (hr : RN T n F G jr rn) (hD : DN n F G jr rt 25 0 0) : CF T (fun i j => rt (rn i j)) := by
  constructor
  · intro i j h1 h2
    obtain ⟨a1, a2, a3⟩ := hr i j h1
    have hR := hT.1 _ a1.1 a1.2
    have hi : i + 1 ≤ G (rn i j) := by
      apply Classical.byContradiction
      intro w
      have : G (rn i j) = i := by omega
      have e := hR.2.2.2.2.2.2.2
      rw [this, a2, h2] at e
      cases e
    have := rn_u hT hr a1.1 a1.2 (i := i + 1) ⟨by omega, hi⟩
    rw [a2] at this
    show rt (rn i j) = rt (rn (i + 1) j)
    rw [this]
  · intro i j h1 h2
    obtain ⟨a1, a2, a3⟩ := hr i j h1
    obtain ⟨b1, b2, b3⟩ := hr i (j + 1) h2
    refine hD _ _ a1.1 a1.2 b1.1 b1.2 (by omega) (by omega) (by omega) (Or.inl ?_)
    have := (hT.1 _ b1.1 b1.2).2.2.2.2.1
    omega
section
variable {c bd : Int32} {rows drawn passed work inner crn rfr rto par cel opn rst : Nat → Int32}
variable {post : Int32 → SX → Prop}
theorem xx_p227 {T : Int → Int → Bool} {n : Int} {F jr : Int → Int} {rn : Int → Int → Int} {rt : Int → Int} {x2 : Int32} {fz : Bool} (hfz : (x2 = jI 0) ↔ fz = true) (hn : 0 ≤ n ∧ n ≤ 325) (hJ : JV T n F jr rn rt par cel opn)
    (h : post (jI (cn (fun k => decide (rt k = k) && (fz || !ex (oo T rn rt k))) n.toNat)) (c, bd, rows, drawn, passed, work, inner, crn, rfr, rto, par, cel, opn, rst)) : ∃ m, wX_pieces_227 post x2 (jI n) c bd rows drawn passed work inner crn rfr rto par cel opn rst m (jI 0) (jI 0) := by
  obtain ⟨⟨p, dp, hU⟩, hV, _⟩ := hJ
  refine lj_a (fun m k s => wX_pieces_227 post x2 (jI n) c bd rows drawn passed work inner crn rfr rto par cel opn rst m s (jI k)) (fun k => jI (cn (fun k => decide (rt k = k) && (fz || !ex (oo T rn rt k))) k.toNat)) 0 n rfl hn.1 (fun m => ?_) (fun m k k0 k1 ih => ?_)
  · simp (disch := omega) only [wX_pieces_227, jl_0, jl_1, jl_2, jl_3, jl_4, jl_5, jl_6, jl_7, jl_8, jl_9, jl_12, jl_13, jl_16, jl_24, jl_25, jl_50, jl_168, jl_169, jl_624, jl_625, jl_1000, jI_add, jI_sub, jI_mul, jI_neg, jI_div, ie_mod, jI_leT, jI_leF, jI_ltT, jI_ltF, jI_eqT, jI_eqF, jI_cl, jI_inT, forall_eq, true_implies, false_implies, implies_true, not_true_eq_false, not_false_eq_true, true_and, and_true, b2_0, b2_z]; exact h
  · rw [cn_s2 _ k0] at ih
    obtain ⟨e1, e2, e3, e4, e5, e6, e7, e8⟩ := hU k k0 k1
    by_cases w : rt k = k
    · have hp : p k = k := by rw [w] at e5; exact e5
      have hv := (hV k k0 k1 w).2
      rw [decide_eq_true w, Bool.true_and] at ih
      cases hf : fz with
      | true =>
        rw [hf] at ih
        have hx := hfz.mpr hf
        rw [hx] at ih ⊢
        simp (disch := omega) only [wX_pieces_227, jl_0, jl_1, jl_2, jl_3, jl_4, jl_5, jl_6, jl_7, jl_8, jl_9, jl_12, jl_13, jl_16, jl_24, jl_25, jl_50, jl_168, jl_169, jl_624, jl_625, jl_1000, jI_add, jI_sub, jI_mul, jI_neg, jI_div, ie_mod, jI_leT, jI_leF, jI_ltT, jI_ltF, jI_eqT, jI_eqF, jI_cl, jI_inT, forall_eq, true_implies, false_implies, implies_true, not_true_eq_false, not_false_eq_true, true_and, and_true, b2_0, b2_z, e1]
        exact ih
      | false =>
        have hx : (x2 = jI 0) = False := eq_false (fun z => by rw [hfz.mp z] at hf; cases hf)
        rw [hf, Bool.false_or] at ih
        simp (disch := omega) only [wX_pieces_227, jl_0, jl_1, jl_2, jl_3, jl_4, jl_5, jl_6, jl_7, jl_8, jl_9, jl_12, jl_13, jl_16, jl_24, jl_25, jl_50, jl_168, jl_169, jl_624, jl_625, jl_1000, jI_add, jI_sub, jI_mul, jI_neg, jI_div, ie_mod, jI_leT, jI_leF, jI_ltT, jI_ltF, jI_eqT, jI_eqF, jI_cl, jI_inT, forall_eq, true_implies, false_implies, implies_true, not_true_eq_false, not_false_eq_true, true_and, and_true, b2_0, b2_z, e1, hx, hv]
        refine tf_c (fun e => ?_) (fun e => ?_)
        · rw [e] at ih; exact ih
        · rw [e, show o1 (!true) = 0 from rfl, Int.add_zero] at ih; exact ih
    · have hp : ¬ p k = k := fun z => w (e7 z)
      rw [decide_eq_false w, Bool.false_and, show o1 false = 0 from rfl, Int.add_zero] at ih
      simp (disch := omega) only [wX_pieces_227, jl_0, jl_1, jl_2, jl_3, jl_4, jl_5, jl_6, jl_7, jl_8, jl_9, jl_12, jl_13, jl_16, jl_24, jl_25, jl_50, jl_168, jl_169, jl_624, jl_625, jl_1000, jI_add, jI_sub, jI_mul, jI_neg, jI_div, ie_mod, jI_leT, jI_leF, jI_ltT, jI_ltF, jI_eqT, jI_eqF, jI_cl, jI_inT, forall_eq, true_implies, false_implies, implies_true, not_true_eq_false, not_false_eq_true, true_and, and_true, b2_0, b2_z, e1]
      exact ih
theorem xx_pieces {L : Int → Int → Int → Bool} (hX : RX L rows) (hLO : RO L) {T : Int → Int → Bool} (hO : SO T) {l : Int} (hl : 0 ≤ l ∧ l < 6) {x2 : Int32} {fz : Bool} (hfz : (x2 = jI 0) ↔ fz = true)
    (hT : ∀ j : Int, 0 ≤ j → j < 25 → wd (fun i => L l i j) ^^^ x2 = wd (fun i => T i j))
    (h : ∀ (n : Int) (F G jr st : Int → Int) (rn : Int → Int → Int) (rt : Int → Int) (rfr rto par cel opn rst : Nat → Int32), FB T n F G jr st rn rt rfr rto par cel opn rst →
      post (jI (cn (fun k => decide (rt k = k) && (fz || !ex (oo T rn rt k))) n.toNat)) (c, bd, rows, drawn, passed, work, inner, crn, rfr, rto, par, cel, opn, rst)) : wpX_pieces post (c, bd, rows, drawn, passed, work, inner, crn, rfr, rto, par, cel, opn, rst) (jI l) x2 := by
  simp only [wpX_pieces]
  refine lj_i (fun m j s => wX_pieces_5 post (jI l) x2 c bd m s.1 (jI j) rows drawn passed work inner crn s.2.1 s.2.2.1 s.2.2.2.1 s.2.2.2.2.1 s.2.2.2.2.2.1 s.2.2.2.2.2.2)
    (fun j s => ∃ (n : Int) (F G jr st : Int → Int), s.1 = jI n ∧ n ≤ 13 * j ∧ PB T j 0 n F G jr (upf st j n) s.2.1 s.2.2.1 s.2.2.2.1 s.2.2.2.2.1 s.2.2.2.2.2.1 (upd s.2.2.2.2.2.2 j.toNat (jI n))) 0 25 (s0 := (jI 0, rfr, rto, par, cel, opn, rst)) ?_ (by omega) (fun m s hI => ?_) (fun m j s j0 j1 hI ih => ?_)
  · refine ⟨0, fun _ => 0, fun _ => 0, fun _ => 0, fun _ => 0, rfl, by omega, ⟨fun k a b => by omega, fun k a b => by omega⟩, fun k a b => by omega, fun j a b => ?_, fun i j hT hij => ?_, fun k a b => by omega, by omega, Or.inl ⟨rfl, by omega⟩⟩
    · have : j = 0 := by omega
      subst this
      rw [upf_s, up_s]
      exact ⟨rfl, by omega, by omega, fun k a b => by omega⟩
    · have : ¬ (0 ≤ i ∧ i < 25 ∧ 0 ≤ j ∧ j < 25) := by omega
      rw [hO i j this] at hT
      cases hT
  · obtain ⟨n0, rfr, rto, par, cel, opn, rst⟩ := s
    obtain ⟨n, F, G, jr, st, e, hn, hTB, hTA, hTS, hTC⟩ := hI
    dsimp only at e hTA hTS ⊢
    rw [e]
    obtain ⟨rn, hr⟩ := rn_ex hO hTC
    have hn0 := hTC.2.2.1
    have hJ0 := jv_0 hO hTB hr hTA
    have hA2 : ∀ k : Int, 0 ≤ k → k < n → rfr k.toNat = jI (F k) ∧ rto k.toNat = jI (G k) := fun k a b => ⟨(hTA k a b).1, (hTA k a b).2.1⟩
    simp (disch := omega) only [wX_pieces_5, jl_0, jl_1, jl_2, jl_3, jl_4, jl_5, jl_6, jl_7, jl_8, jl_9, jl_12, jl_13, jl_16, jl_24, jl_25, jl_50, jl_168, jl_169, jl_624, jl_625, jl_1000, jI_add, jI_sub, jI_mul, jI_neg, jI_div, ie_mod, jI_leT, jI_leF, jI_ltT, jI_ltF, jI_eqT, jI_eqF, jI_cl, jI_inT, forall_eq, true_implies, false_implies, implies_true, not_true_eq_false, not_false_eq_true, true_and, and_true, b2_0, b2_z, jI_s16, jI_ns]
    refine lj_i (fun m j s => wX_pieces_202 post x2 (jI n) m (jI j) c bd rows drawn passed work inner crn rfr rto s.1 s.2.1 s.2.2 (upd rst (25 : Int).toNat (jI n))) (fun j s => ∃ rt, JV T n F jr rn rt s.1 s.2.1 s.2.2 ∧ DN n F G jr rt j 0 0) 1 25 (s0 := (par, cel, opn)) ?_ (by omega) (fun m s hI => ?_) (fun m j s j0 j1 hI ih => ?_)
    · refine ⟨_, hJ0, fun p' q' a1 a2 a3 a4 a5 a6 a7 a8 => ?_⟩
      have := (hTB.1 p' a1 a2).2.2.2.1
      omega
    · obtain ⟨par, cel, opn⟩ := s
      obtain ⟨rt, hJ, hD⟩ := hI
      dsimp only at hJ ⊢
      simp (disch := omega) only [wX_pieces_202, jl_0, jl_1, jl_2, jl_3, jl_4, jl_5, jl_6, jl_7, jl_8, jl_9, jl_12, jl_13, jl_16, jl_24, jl_25, jl_50, jl_168, jl_169, jl_624, jl_625, jl_1000, jI_add, jI_sub, jI_mul, jI_neg, jI_div, ie_mod, jI_leT, jI_leF, jI_ltT, jI_ltF, jI_eqT, jI_eqF, jI_cl, jI_inT, forall_eq, true_implies, false_implies, implies_true, not_true_eq_false, not_false_eq_true, true_and, and_true, b2_0, b2_z]
      refine xx_p227 hfz ⟨hn0, by omega⟩ hJ ?_
      exact h n F G jr _ rn rt rfr rto par cel opn _ ⟨hn0, by omega, hTB, hA2, hTS, hr, hJ, cf_rt hTB hr hD⟩
    · obtain ⟨par, cel, opn⟩ := s
      obtain ⟨rt, hJ, hD⟩ := hI
      dsimp only at hJ ⊢
      obtain ⟨s1, s2, s3, s4⟩ := hTS (j - 1) (by omega) (by omega)
      obtain ⟨t1, t2, t3, t4⟩ := hTS j (by omega) (by omega)
      obtain ⟨u1, u2, u3, u4⟩ := hTS (j + 1) (by omega) (by omega)
      have le1 : upf st 25 n (j - 1) ≤ upf st 25 n j := by
        apply Classical.byContradiction
        intro w
        have a := (s4 (upf st 25 n j) t2 (by omega)).mp (by omega)
        have b := t4 (upf st 25 n j) t2 (by omega)
        omega
      have le2 : upf st 25 n j ≤ upf st 25 n (j + 1) := by
        apply Classical.byContradiction
        intro w
        have a := (t4 (upf st 25 n (j + 1)) u2 (by omega)).mp (by omega)
        have b := u4 (upf st 25 n (j + 1)) u2 (by omega)
        omega
      simp (disch := omega) only [wX_pieces_202, wpX_joinRows, jl_0, jl_1, jl_2, jl_3, jl_4, jl_5, jl_6, jl_7, jl_8, jl_9, jl_12, jl_13, jl_16, jl_24, jl_25, jl_50, jl_168, jl_169, jl_624, jl_625, jl_1000, jI_add, jI_sub, jI_mul, jI_neg, jI_div, ie_mod, jI_leT, jI_leF, jI_ltT, jI_ltF, jI_eqT, jI_eqF, jI_cl, jI_inT, forall_eq, true_implies, false_implies, implies_true, not_true_eq_false, not_false_eq_true, true_and, and_true, b2_0, b2_z, s1, t1]
      refine ⟨(2 * n).toNat + 1, xx_jr16 (by omega) hTB hA2 hTS ⟨j0, j1⟩ (fun rt' par' cel' opn' hJ' hD' => ?_) _ _ _ rt par cel opn hJ (fun p' q' a1 a2 a3 a4 a5 a6 a7 a8 => ?_) (Int.le_refl _) le1 (Int.le_refl _) le2 (by omega)⟩
      · exact ih (par', cel', opn') ⟨rt', hJ', hD'⟩
      · refine hD p' q' a1 a2 a3 a4 a5 a6 a7 ?_
        rcases a8 with w | ⟨w, w2⟩
        · exact Or.inl w
        · have x1 := s4 p' a1 a2
          have x2' := t4 q' a3 a4
          omega
  · obtain ⟨n0, rfr, rto, par, cel, opn, rst⟩ := s
    obtain ⟨n, F, G, jr, st, e, hn, hP⟩ := hI
    dsimp only at e hP ⊢
    have hn0 := hP.2.2.2.2.2.1
    rw [e]
    simp (disch := omega) only [wX_pieces_5, jl_0, jl_1, jl_2, jl_3, jl_4, jl_5, jl_6, jl_7, jl_8, jl_9, jl_12, jl_13, jl_16, jl_24, jl_25, jl_50, jl_168, jl_169, jl_624, jl_625, jl_1000, jI_add, jI_sub, jI_mul, jI_neg, jI_div, ie_mod, jI_leT, jI_leF, jI_ltT, jI_ltF, jI_eqT, jI_eqF, jI_cl, jI_inT, forall_eq, true_implies, false_implies, implies_true, not_true_eq_false, not_false_eq_true, true_and, and_true, b2_0, b2_z, jI_s16, jI_ns, xx_row hX hLO, hT]
    refine ⟨26, xx_p35 hO ⟨j0, by omega⟩ (fun n' F' G' jr' rfr' rto' par' cel' opn' hn' hP' => ?_) 26 n 0 F G jr rfr rto par cel opn (by omega) (by omega) (by omega) hP⟩
    exact ih (jI n', rfr', rto', par', cel', opn', upd rst j.toNat (jI n)) ⟨n', F', G', jr', _, rfl, by omega, hP'⟩
end
end
section
/-! ===== labels of pieces ===== -/
def nb (n d : Int) : Int := n + 25 * (d / 3 - 1) + (d % 3 - 1)
def alw (n d : Int) : Bool := decide ((d / 3 - 1 = 0 ∨ d % 3 - 1 = 0 ∨ (n / 25 + n % 25) % 2 = 0) ∧ 0 ≤ n / 25 + (d / 3 - 1) ∧ n / 25 + (d / 3 - 1) < 25 ∧ 0 ≤ n % 25 + (d % 3 - 1) ∧ n % 25 + (d % 3 - 1) < 25)
def lw (lb : Int → Int) (n : Int) : Nat → Int
  | 0 => lb n
  | d + 1 => st1 (alw n d && decide (0 ≤ lb (nb n d))) (lb (nb n d)) (lw lb n d)
theorem lw_s (lb : Int → Int) (n : Int) {d : Int} (h : 0 ≤ d) : lw lb n (d + 1).toNat = st1 (alw n d && decide (0 ≤ lb (nb n d))) (lb (nb n d)) (lw lb n d.toNat) := by
  rw [show (d + 1).toNat = d.toNat + 1 by omega]
  show st1 (alw n ((d.toNat : Nat) : Int) && decide (0 ≤ lb (nb n ((d.toNat : Nat) : Int)))) (lb (nb n ((d.toNat : Nat) : Int))) (lw lb n d.toNat) = _
  rw [show ((d.toNat : Nat) : Int) = d by omega]
theorem lw_le (lb : Int → Int) (n : Int) : ∀ d : Nat, lw lb n d ≤ lb n := by
  intro d
  induction d with
  | zero => exact Int.le_refl _
  | succ d ih =>
    have := st1_le (alw n d && decide (0 ≤ lb (nb n d))) (lb (nb n d)) (lw lb n d)
    show st1 _ _ _ ≤ _
    omega
theorem lw_c (lb : Int → Int) (n : Int) : ∀ d : Nat, lw lb n d = lb n ∨ ∃ e : Int, 0 ≤ e ∧ e < d ∧ alw n e = true ∧ 0 ≤ lb (nb n e) ∧ lw lb n d = lb (nb n e) := by
  intro d
  induction d with
  | zero => exact Or.inl rfl
  | succ d ih =>
    rcases st1_c (alw n d && decide (0 ≤ lb (nb n d))) (lb (nb n d)) (lw lb n d) with h | ⟨h, _, h'⟩
    · rcases ih with w | ⟨e, e0, e1, e2, e3, e4⟩
      · exact Or.inl (h.trans w)
      · exact Or.inr ⟨e, e0, by omega, e2, e3, h.trans e4⟩
    · rw [Bool.and_eq_true, decide_eq_true_eq] at h
      exact Or.inr ⟨d, by omega, by omega, h.1, h.2, h'⟩
theorem lw_m (lb : Int → Int) (n : Int) : ∀ (d : Nat) (e : Int), 0 ≤ e → e < d → alw n e = true → 0 ≤ lb (nb n e) → lw lb n d ≤ lb (nb n e) := by
  intro d
  induction d with
  | zero => intro e a b; omega
  | succ d ih =>
    intro e a b h1 h2
    have hle := st1_le (alw n d && decide (0 ≤ lb (nb n d))) (lb (nb n d)) (lw lb n d)
    show st1 (alw n d && decide (0 ≤ lb (nb n d))) (lb (nb n d)) (lw lb n d) ≤ _
    by_cases z : e = d
    · subst z
      rw [h1, decide_eq_true h2]
      by_cases w : lb (nb n d) < lw lb n d
      · rw [show (true && true) = true from rfl, st1_T w]; exact Int.le_refl _
      · rw [st1_n (by omega)]; omega
    · have := ih e a (by omega) h1 h2
      omega
section
variable {cy : Int32} {lys fil mad st px py lab : Nat → Int32}
variable {post : Int32 → SY → Prop}
theorem yy_low {lb : Int → Int} (hb : ∀ q : Int, 0 ≤ q → q < 625 → lab q.toNat = jI (lb q) ∧ -1 ≤ lb q ∧ lb q < 625) {n : Int} (hn : 0 ≤ n ∧ n < 625) (hpos : 0 ≤ lb n)
    (h : post (b2 (decide (lw lb n 9 < lb n))) (cy, lys, fil, mad, st, px, py, upd lab n.toNat (jI (lw lb n 9)))) : wpY_lowered post (cy, lys, fil, mad, st, px, py, lab) (jI n) := by
  obtain ⟨h1, h2, h3⟩ := hb n hn.1 hn.2
  have hlw : ∀ d : Nat, 0 ≤ lw lb n d ∧ lw lb n d < 625 := by
    intro d
    have := lw_le lb n d
    rcases lw_c lb n d with w | ⟨e, _, _, _, e3, e4⟩
    · omega
    · omega
  simp (disch := omega) only [wpY_lowered, jl_0, jl_1, jl_2, jl_3, jl_4, jl_5, jl_6, jl_7, jl_8, jl_9, jl_12, jl_13, jl_16, jl_24, jl_25, jl_50, jl_168, jl_169, jl_624, jl_625, jl_1000, jI_add, jI_sub, jI_mul, jI_neg, jI_div, ie_mod, jI_leT, jI_leF, jI_ltT, jI_ltF, jI_eqT, jI_eqF, jI_cl, jI_inT, forall_eq, true_implies, false_implies, implies_true, not_true_eq_false, not_false_eq_true, true_and, and_true, b2_0, b2_z, h1]
  refine lj_a (fun m d s => wY_lowered_21 post (jI n) (jI (n / 25)) (jI (n % 25)) cy lys fil mad st px py lab m s (jI d)) (fun d => jI (lw lb n d.toNat)) 0 9 rfl (by omega) (fun m => ?_) (fun m d d0 d1 ih => ?_)
  · have h9 := hlw 9
    show wY_lowered_21 post (jI n) (jI (n / 25)) (jI (n % 25)) cy lys fil mad st px py lab (m + 1) (jI (lw lb n 9)) (jI 9)
    by_cases w : lb n ≤ lw lb n 9
    · rw [decide_eq_false (by omega)] at h
      simp (disch := omega) only [wY_lowered_21, wY_lowered_144, jl_0, jl_1, jl_2, jl_3, jl_4, jl_5, jl_6, jl_7, jl_8, jl_9, jl_12, jl_13, jl_16, jl_24, jl_25, jl_50, jl_168, jl_169, jl_624, jl_625, jl_1000, jI_add, jI_sub, jI_mul, jI_neg, jI_div, ie_mod, jI_leT, jI_leF, jI_ltT, jI_ltF, jI_eqT, jI_eqF, jI_cl, jI_inT, forall_eq, true_implies, false_implies, implies_true, not_true_eq_false, not_false_eq_true, true_and, and_true, b2_0, b2_z, h1, nr_0]
      exact h
    · rw [decide_eq_true (by omega)] at h
      simp (disch := omega) only [wY_lowered_21, wY_lowered_144, jl_0, jl_1, jl_2, jl_3, jl_4, jl_5, jl_6, jl_7, jl_8, jl_9, jl_12, jl_13, jl_16, jl_24, jl_25, jl_50, jl_168, jl_169, jl_624, jl_625, jl_1000, jI_add, jI_sub, jI_mul, jI_neg, jI_div, ie_mod, jI_leT, jI_leF, jI_ltT, jI_ltF, jI_eqT, jI_eqF, jI_cl, jI_inT, forall_eq, true_implies, false_implies, implies_true, not_true_eq_false, not_false_eq_true, true_and, and_true, b2_0, b2_z, h1, nr_1]
      exact h
  · rw [lw_s lb n d0] at ih
    have hx := hlw d.toNat
    generalize lw lb n d.toNat = x at *
    have skip : (alw n d && decide (0 ≤ lb (nb n d))) = false → wY_lowered_21 post (jI n) (jI (n / 25)) (jI (n % 25)) cy lys fil mad st px py lab m (jI x) (jI (d + 1)) := fun e => by
      rw [e, st1_F] at ih; exact ih
    have k67 : (d / 3 - 1 = 0 ∨ d % 3 - 1 = 0 ∨ (n / 25 + n % 25) % 2 = 0) → wY_lowered_67 post (wY_lowered_21 post (jI n) (jI (n / 25)) (jI (n % 25)) cy lys fil mad st px py lab m) (jI n) (jI (n / 25)) (jI (n % 25)) (jI x) (jI d) (jI (d / 3 - 1)) (jI (d % 3 - 1)) (jI 1) cy lys fil mad st px py lab := by
      intro hj
      by_cases at' : 0 ≤ n / 25 + (d / 3 - 1) ∧ n / 25 + (d / 3 - 1) < 25 ∧ 0 ≤ n % 25 + (d % 3 - 1) ∧ n % 25 + (d % 3 - 1) < 25
      · obtain ⟨g1, g2, g3⟩ := hb (n + 25 * (d / 3 - 1) + (d % 3 - 1)) (by omega) (by omega)
        have ha : alw n d = true := decide_eq_true ⟨hj, at'⟩
        have en : nb n d = n + 25 * (d / 3 - 1) + (d % 3 - 1) := rfl
        rw [en] at ih skip
        by_cases c1 : lb (n + 25 * (d / 3 - 1) + (d % 3 - 1)) < 0
        · simp (disch := omega) only [wY_lowered_67, jl_0, jl_1, jl_2, jl_3, jl_4, jl_5, jl_6, jl_7, jl_8, jl_9, jl_12, jl_13, jl_16, jl_24, jl_25, jl_50, jl_168, jl_169, jl_624, jl_625, jl_1000, jI_add, jI_sub, jI_mul, jI_neg, jI_div, ie_mod, jI_leT, jI_leF, jI_ltT, jI_ltF, jI_eqT, jI_eqF, jI_cl, jI_inT, forall_eq, true_implies, false_implies, implies_true, not_true_eq_false, not_false_eq_true, true_and, and_true, b2_0, b2_z, yy_at, g1]
          exact skip (by rw [decide_eq_false (by omega), Bool.and_false])
        · rw [ha, decide_eq_true (show 0 ≤ lb (n + 25 * (d / 3 - 1) + (d % 3 - 1)) by omega), show (true && true) = true from rfl] at ih
          by_cases c2 : x ≤ lb (n + 25 * (d / 3 - 1) + (d % 3 - 1))
          · rw [st1_n c2] at ih
            simp (disch := omega) only [wY_lowered_67, jl_0, jl_1, jl_2, jl_3, jl_4, jl_5, jl_6, jl_7, jl_8, jl_9, jl_12, jl_13, jl_16, jl_24, jl_25, jl_50, jl_168, jl_169, jl_624, jl_625, jl_1000, jI_add, jI_sub, jI_mul, jI_neg, jI_div, ie_mod, jI_leT, jI_leF, jI_ltT, jI_ltF, jI_eqT, jI_eqF, jI_cl, jI_inT, forall_eq, true_implies, false_implies, implies_true, not_true_eq_false, not_false_eq_true, true_and, and_true, b2_0, b2_z, yy_at, g1]
            exact ih
          · rw [st1_T (by omega)] at ih
            simp (disch := omega) only [wY_lowered_67, jl_0, jl_1, jl_2, jl_3, jl_4, jl_5, jl_6, jl_7, jl_8, jl_9, jl_12, jl_13, jl_16, jl_24, jl_25, jl_50, jl_168, jl_169, jl_624, jl_625, jl_1000, jI_add, jI_sub, jI_mul, jI_neg, jI_div, ie_mod, jI_leT, jI_leF, jI_ltT, jI_ltF, jI_eqT, jI_eqF, jI_cl, jI_inT, forall_eq, true_implies, false_implies, implies_true, not_true_eq_false, not_false_eq_true, true_and, and_true, b2_0, b2_z, yy_at, g1]
            exact ih
      · simp (disch := omega) only [wY_lowered_67, jl_0, jl_1, jl_2, jl_3, jl_4, jl_5, jl_6, jl_7, jl_8, jl_9, jl_12, jl_13, jl_16, jl_24, jl_25, jl_50, jl_168, jl_169, jl_624, jl_625, jl_1000, jI_add, jI_sub, jI_mul, jI_neg, jI_div, ie_mod, jI_leT, jI_leF, jI_ltT, jI_ltF, jI_eqT, jI_eqF, jI_cl, jI_inT, forall_eq, true_implies, false_implies, implies_true, not_true_eq_false, not_false_eq_true, true_and, and_true, b2_0, b2_z, yy_atF]
        refine skip ?_
        unfold alw
        rw [decide_eq_false (fun z => at' z.2), Bool.false_and]
    by_cases c1 : d / 3 - 1 = 0
    · simp (disch := omega) only [wY_lowered_21, wY_lowered_62, jl_0, jl_1, jl_2, jl_3, jl_4, jl_5, jl_6, jl_7, jl_8, jl_9, jl_12, jl_13, jl_16, jl_24, jl_25, jl_50, jl_168, jl_169, jl_624, jl_625, jl_1000, jI_add, jI_sub, jI_mul, jI_neg, jI_div, ie_mod, jI_leT, jI_leF, jI_ltT, jI_ltF, jI_eqT, jI_eqF, jI_cl, jI_inT, forall_eq, true_implies, false_implies, implies_true, not_true_eq_false, not_false_eq_true, true_and, and_true, b2_0, b2_z]
      exact k67 (Or.inl c1)
    · by_cases c2 : d % 3 - 1 = 0
      · simp (disch := omega) only [wY_lowered_21, wY_lowered_62, jl_0, jl_1, jl_2, jl_3, jl_4, jl_5, jl_6, jl_7, jl_8, jl_9, jl_12, jl_13, jl_16, jl_24, jl_25, jl_50, jl_168, jl_169, jl_624, jl_625, jl_1000, jI_add, jI_sub, jI_mul, jI_neg, jI_div, ie_mod, jI_leT, jI_leF, jI_ltT, jI_ltF, jI_eqT, jI_eqF, jI_cl, jI_inT, forall_eq, true_implies, false_implies, implies_true, not_true_eq_false, not_false_eq_true, true_and, and_true, b2_0, b2_z]
        exact k67 (Or.inr (Or.inl c2))
      · by_cases c3 : (n / 25 + n % 25) % 2 = 0
        · simp (disch := omega) only [wY_lowered_21, wY_lowered_62, jl_0, jl_1, jl_2, jl_3, jl_4, jl_5, jl_6, jl_7, jl_8, jl_9, jl_12, jl_13, jl_16, jl_24, jl_25, jl_50, jl_168, jl_169, jl_624, jl_625, jl_1000, jI_add, jI_sub, jI_mul, jI_neg, jI_div, ie_mod, jI_leT, jI_leF, jI_ltT, jI_ltF, jI_eqT, jI_eqF, jI_cl, jI_inT, forall_eq, true_implies, false_implies, implies_true, not_true_eq_false, not_false_eq_true, true_and, and_true, b2_0, b2_z]
          exact k67 (Or.inr (Or.inr c3))
        · simp (disch := omega) only [wY_lowered_21, wY_lowered_62, wY_lowered_67, jl_0, jl_1, jl_2, jl_3, jl_4, jl_5, jl_6, jl_7, jl_8, jl_9, jl_12, jl_13, jl_16, jl_24, jl_25, jl_50, jl_168, jl_169, jl_624, jl_625, jl_1000, jI_add, jI_sub, jI_mul, jI_neg, jI_div, ie_mod, jI_leT, jI_leF, jI_ltT, jI_ltF, jI_eqT, jI_eqF, jI_cl, jI_inT, forall_eq, true_implies, false_implies, implies_true, not_true_eq_false, not_false_eq_true, true_and, and_true, b2_0, b2_z]
          refine skip ?_
          unfold alw
          rw [decide_eq_false (by omega), Bool.false_and]
end
/-- the labels so far -/
def LPq (T : Int → Int → Bool) (lb : Int → Int) (lab : Nat → Int32) : Prop := ∀ q : Int, 0 ≤ q → q < 625 → lab q.toNat = jI (lb q) ∧ (T (q / 25) (q % 25) = false → lb q = -1) ∧
  (T (q / 25) (q % 25) = true → 0 ≤ lb q ∧ lb q ≤ q ∧ T (lb q / 25) (lb q % 25) = true ∧ ∀ f : Int → Int → Int, CF T f → f (lb q / 25) (lb q % 25) = f (q / 25) (q % 25))
/-- the reference's neighbours are joined by sides -/
def DG (T : Int → Int → Bool) : Prop := ∀ (f : Int → Int → Int), CF T f → ∀ n d : Int, 0 ≤ n → n < 625 → 0 ≤ d → d < 9 → alw n d = true → T (n / 25) (n % 25) = true → T (nb n d / 25) (nb n d % 25) = true → f (n / 25) (n % 25) = f (nb n d / 25) (nb n d % 25)
theorem lp_r {T : Int → Int → Bool} {lb : Int → Int} {lab : Nat → Int32} (h : LPq T lb lab) : ∀ q : Int, 0 ≤ q → q < 625 → lab q.toNat = jI (lb q) ∧ -1 ≤ lb q ∧ lb q < 625 := by
  intro q q0 q1
  obtain ⟨a, b, c⟩ := h q q0 q1
  refine ⟨a, ?_⟩
  cases e : T (q / 25) (q % 25) with
  | false => have := b e; omega
  | true => have := c e; omega
theorem alw_r {n d : Int} (hn : 0 ≤ n ∧ n < 625) (h : alw n d = true) : 0 ≤ nb n d ∧ nb n d < 625 ∧ nb n d / 25 = n / 25 + (d / 3 - 1) ∧ nb n d % 25 = n % 25 + (d % 3 - 1) := by
  have := of_decide_eq_true h
  unfold nb
  omega
theorem lp_s {T : Int → Int → Bool} (hD : DG T) {lb : Int → Int} {lab : Nat → Int32} (h : LPq T lb lab) {n : Int} (hn : 0 ≤ n ∧ n < 625) (hT : T (n / 25) (n % 25) = true) :
    LPq T (upf lb n (lw lb n 9)) (upd lab n.toNat (jI (lw lb n 9))) := by
  intro q q0 q1
  by_cases w : q = n
  · subst w
    rw [upf_s, up_s]
    refine ⟨rfl, (fun e => by rw [e] at hT; cases hT), fun _ => ?_⟩
    obtain ⟨_, _, c⟩ := h q q0 q1
    have hc := c hT
    rcases lw_c lb q 9 with z | ⟨e, e0, e1, e2, e3, e4⟩
    · rw [z]; exact hc
    · have hr := alw_r hn e2
      have hle := lw_le lb q 9
      obtain ⟨_, b', c'⟩ := h (nb q e) hr.1 hr.2.1
      have hT' : T (nb q e / 25) (nb q e % 25) = true := by
        cases x : T (nb q e / 25) (nb q e % 25) with
        | true => rfl
        | false => have := b' x; omega
      have hc' := c' hT'
      rw [e4] at hle ⊢
      refine ⟨hc'.1, by omega, hc'.2.2.1, fun f hf => ?_⟩
      rw [hc'.2.2.2 f hf]
      exact (hD f hf q e q0 q1 e0 (by omega) e2 hT hT').symm
  · rw [show upf lb n (lw lb n 9) q = lb q from if_neg w, up_n (by omega)]
    exact h q q0 q1
def PJ (T : Int → Int → Bool) (S0 q : Int) (s : Int32 × (Nat → Int32)) : Prop :=
  ∃ lb : Int → Int, LPq T lb s.2 ∧ ((s.1 = jI 0 ∧ sm lb 625 = S0 ∧ ∀ p : Int, 0 ≤ p → p < q → T (p / 25) (p % 25) = true → lw lb p 9 = lb p) ∨ (s.1 = jI 1 ∧ sm lb 625 < S0))
theorem pj_s {T : Int → Int → Bool} (hD : DG T) {S0 q q' : Int} {lb : Int → Int} {x4 : Int32} {lab : Nat → Int32} (hL : LPq T lb lab) (hq : 0 ≤ q ∧ q < 625) (hT : T (q / 25) (q % 25) = true)
    (h : (x4 = jI 0 ∧ sm lb 625 = S0 ∧ (∀ p : Int, 0 ≤ p → p < q' → T (p / 25) (p % 25) = true → lw lb p 9 = lb p ∨ p = q)) ∨ (x4 = jI 1 ∧ sm lb 625 < S0)) :
    (lw lb q 9 < lb q → PJ T S0 q' (jI 1, upd lab q.toNat (jI (lw lb q 9)))) ∧ (¬ lw lb q 9 < lb q → PJ T S0 q' (x4, upd lab q.toNat (jI (lw lb q 9)))) := by
  have hs := lp_s hD hL hq hT
  have hle := lw_le lb q 9
  constructor
  · intro hlt
    refine ⟨_, hs, Or.inr ⟨rfl, ?_⟩⟩
    rw [sm_up lb 625 hq.1 (by omega)]
    rcases h with h | h <;> omega
  · intro hlt
    have e : lw lb q 9 = lb q := by omega
    rw [e, upf_id] at hs
    rw [e]
    refine ⟨lb, hs, ?_⟩
    rcases h with ⟨h1, h2, h3⟩ | h
    · refine Or.inl ⟨h1, h2, fun p p0 p1 pT => ?_⟩
      rcases h3 p p0 p1 pT with z | z
      · exact z
      · rw [z]; exact e
    · exact Or.inr h
section
variable {cy : Int32} {lys fil mad st px py lab : Nat → Int32}
variable {post : SY → Prop}
theorem yy_pc44 {T : Int → Int → Bool} (hD : DG T) 
    (h : ∀ lb lab', LPq T lb lab' → (∀ p : Int, 0 ≤ p → p < 625 → T (p / 25) (p % 25) = true → lw lb p 9 = lb p) → post (cy, lys, fil, mad, st, px, py, lab')) :
    ∀ (n : Nat) (lb : Int → Int) (lab : Nat → Int32), LPq T lb lab → sm lb 625 + 625 < n → wY_pieces_44 post (n + 1) (jI 1) cy lys fil mad st px py lab := by
  intro n
  induction n with
  | zero =>
    intro lb lab hL hs
    have h1 : ∀ m : Nat, m ≤ 625 → -(m : Int) ≤ sm lb m := by
      intro m
      induction m with
      | zero => intro _; exact Int.le_refl _
      | succ m ih =>
        intro hm
        have := ih (by omega)
        have := (lp_r hL m (by omega) (by omega)).2.1
        show -((m + 1 : Nat) : Int) ≤ sm lb m + lb m
        omega
    have := h1 625 (by omega)
    omega
  | succ n ih =>
    intro lb lab hL hs
    rw [wY_pieces_44]
    simp (disch := omega) only [jl_0, jl_1, jl_2, jl_3, jl_4, jl_5, jl_6, jl_7, jl_8, jl_9, jl_12, jl_13, jl_16, jl_24, jl_25, jl_50, jl_168, jl_169, jl_624, jl_625, jl_1000, jI_add, jI_sub, jI_mul, jI_neg, jI_div, ie_mod, jI_leT, jI_leF, jI_ltT, jI_ltF, jI_eqT, jI_eqF, jI_cl, jI_inT, forall_eq, true_implies, false_implies, implies_true, not_true_eq_false, not_false_eq_true, true_and, and_true, b2_0, b2_z]
    refine lj_i (fun n53 q s => wY_pieces_53 post (wY_pieces_44 post (n + 1)) n53 s.1 (jI q) cy lys fil mad st px py s.2) (fun q s => PJ T (sm lb 625) q s) 0 625 (s0 := (jI 0, lab)) ⟨lb, hL, Or.inl ⟨rfl, rfl, fun p p0 p1 => by omega⟩⟩ (by omega) (fun n53 s hI => ?_) (fun n53 q s q0 q1 hI ih2 => ?_)
    · obtain ⟨x4, lab1⟩ := s
      simp (disch := omega) only [wY_pieces_53, jl_0, jl_1, jl_2, jl_3, jl_4, jl_5, jl_6, jl_7, jl_8, jl_9, jl_12, jl_13, jl_16, jl_24, jl_25, jl_50, jl_168, jl_169, jl_624, jl_625, jl_1000, jI_add, jI_sub, jI_mul, jI_neg, jI_div, ie_mod, jI_leT, jI_leF, jI_ltT, jI_ltF, jI_eqT, jI_eqF, jI_cl, jI_inT, forall_eq, true_implies, false_implies, implies_true, not_true_eq_false, not_false_eq_true, true_and, and_true, b2_0, b2_z]
      refine lj_id (fun n93 q s => wY_pieces_93 post (wY_pieces_44 post (n + 1)) n93 s.1 (jI q) cy lys fil mad st px py s.2) (fun q s => PJ T (sm lb 625) 625 s) 624 (s0 := (x4, lab1)) hI (by omega) (fun n93 s hI => ?_) (fun n93 q s q0 q1 hI ih2 => ?_)
      · obtain ⟨x4, lab1⟩ := s
        simp (disch := omega) only [wY_pieces_93, jl_0, jl_1, jl_2, jl_3, jl_4, jl_5, jl_6, jl_7, jl_8, jl_9, jl_12, jl_13, jl_16, jl_24, jl_25, jl_50, jl_168, jl_169, jl_624, jl_625, jl_1000, jI_add, jI_sub, jI_mul, jI_neg, jI_div, ie_mod, jI_leT, jI_leF, jI_ltT, jI_ltF, jI_eqT, jI_eqF, jI_cl, jI_inT, forall_eq, true_implies, false_implies, implies_true, not_true_eq_false, not_false_eq_true, true_and, and_true, b2_0, b2_z]
        obtain ⟨lb1, hL1, ⟨e, _, hf⟩ | ⟨e, hs1⟩⟩ := hI
        · dsimp only at e hL1
          rw [e, wY_pieces_44]
          have hh := h lb1 lab1 hL1 hf
          simp (disch := omega) only [jl_0, jl_1, jl_2, jl_3, jl_4, jl_5, jl_6, jl_7, jl_8, jl_9, jl_12, jl_13, jl_16, jl_24, jl_25, jl_50, jl_168, jl_169, jl_624, jl_625, jl_1000, jI_add, jI_sub, jI_mul, jI_neg, jI_div, ie_mod, jI_leT, jI_leF, jI_ltT, jI_ltF, jI_eqT, jI_eqF, jI_cl, jI_inT, forall_eq, true_implies, false_implies, implies_true, not_true_eq_false, not_false_eq_true, true_and, and_true, b2_0, b2_z]
          exact hh
        · dsimp only at e hL1
          rw [e]
          exact ih lb1 lab1 hL1 (by omega)
      · obtain ⟨x4, lab1⟩ := s
        obtain ⟨lb1, hL1, hI⟩ := hI
        dsimp only at hL1 hI ih2 ⊢
        obtain ⟨g1, g2, g3⟩ := lp_r hL1 q q0 (by omega)
        obtain ⟨_, g4, g5⟩ := hL1 q q0 (by omega)
        cases hT : T (q / 25) (q % 25) with
        | false =>
          have := g4 hT
          simp (disch := omega) only [wY_pieces_93, jl_0, jl_1, jl_2, jl_3, jl_4, jl_5, jl_6, jl_7, jl_8, jl_9, jl_12, jl_13, jl_16, jl_24, jl_25, jl_50, jl_168, jl_169, jl_624, jl_625, jl_1000, jI_add, jI_sub, jI_mul, jI_neg, jI_div, ie_mod, jI_leT, jI_leF, jI_ltT, jI_ltF, jI_eqT, jI_eqF, jI_cl, jI_inT, forall_eq, true_implies, false_implies, implies_true, not_true_eq_false, not_false_eq_true, true_and, and_true, b2_0, b2_z, g1]
          have := ih2 (x4, lab1) ⟨lb1, hL1, hI⟩
          rw [show q + -1 = q - 1 by omega]
          exact this
        | true =>
          have hpos := (g5 hT).1
          have hst := pj_s hD (q := q) (q' := 625) hL1 ⟨q0, by omega⟩ hT (hI.imp (fun z => ⟨z.1, z.2.1, fun p p0 p1 pT => Or.inl (z.2.2 p p0 p1 pT)⟩) id)
          simp (disch := omega) only [wY_pieces_93, jl_0, jl_1, jl_2, jl_3, jl_4, jl_5, jl_6, jl_7, jl_8, jl_9, jl_12, jl_13, jl_16, jl_24, jl_25, jl_50, jl_168, jl_169, jl_624, jl_625, jl_1000, jI_add, jI_sub, jI_mul, jI_neg, jI_div, ie_mod, jI_leT, jI_leF, jI_ltT, jI_ltF, jI_eqT, jI_eqF, jI_cl, jI_inT, forall_eq, true_implies, false_implies, implies_true, not_true_eq_false, not_false_eq_true, true_and, and_true, b2_0, b2_z, g1]
          refine yy_low (lp_r hL1) ⟨q0, by omega⟩ hpos ?_
          simp (disch := omega) only [b2_0]
          refine tf_c (fun e => ?_) (fun e => ?_)
          · have := ih2 _ (hst.2 (of_decide_eq_false e))
            rw [show q + -1 = q - 1 by omega]
            exact this
          · have := ih2 _ (hst.1 (of_decide_eq_true e))
            rw [show q + -1 = q - 1 by omega]
            exact this
    · obtain ⟨x4, lab1⟩ := s
      obtain ⟨lb1, hL1, hI⟩ := hI
      dsimp only at hL1 hI ih2 ⊢
      obtain ⟨g1, g2, g3⟩ := lp_r hL1 q q0 (by omega)
      obtain ⟨_, g4, g5⟩ := hL1 q q0 (by omega)
      cases hT : T (q / 25) (q % 25) with
      | false =>
        have := g4 hT
        simp (disch := omega) only [wY_pieces_53, jl_0, jl_1, jl_2, jl_3, jl_4, jl_5, jl_6, jl_7, jl_8, jl_9, jl_12, jl_13, jl_16, jl_24, jl_25, jl_50, jl_168, jl_169, jl_624, jl_625, jl_1000, jI_add, jI_sub, jI_mul, jI_neg, jI_div, ie_mod, jI_leT, jI_leF, jI_ltT, jI_ltF, jI_eqT, jI_eqF, jI_cl, jI_inT, forall_eq, true_implies, false_implies, implies_true, not_true_eq_false, not_false_eq_true, true_and, and_true, b2_0, b2_z, g1]
        refine ih2 (x4, lab1) ⟨lb1, hL1, hI.imp (fun z => ⟨z.1, z.2.1, fun p p0 p1 pT => ?_⟩) id⟩
        by_cases w : p = q
        · rw [w, hT] at pT; cases pT
        · exact z.2.2 p p0 (by omega) pT
      | true =>
        have hpos := (g5 hT).1
        have hst := pj_s hD (q := q) (q' := q + 1) hL1 ⟨q0, q1⟩ hT (hI.imp (fun z => ⟨z.1, z.2.1, fun p p0 p1 pT => by
          by_cases w : p = q
          · exact Or.inr w
          · exact Or.inl (z.2.2 p p0 (by omega) pT)⟩) id)
        simp (disch := omega) only [wY_pieces_53, jl_0, jl_1, jl_2, jl_3, jl_4, jl_5, jl_6, jl_7, jl_8, jl_9, jl_12, jl_13, jl_16, jl_24, jl_25, jl_50, jl_168, jl_169, jl_624, jl_625, jl_1000, jI_add, jI_sub, jI_mul, jI_neg, jI_div, ie_mod, jI_leT, jI_leF, jI_ltT, jI_ltF, jI_eqT, jI_eqF, jI_cl, jI_inT, forall_eq, true_implies, false_implies, implies_true, not_true_eq_false, not_false_eq_true, true_and, and_true, b2_0, b2_z, g1]
        refine yy_low (lp_r hL1) ⟨q0, q1⟩ hpos ?_
        simp (disch := omega) only [b2_0]
        refine tf_c (fun e => ?_) (fun e => ?_)
        · exact ih2 _ (hst.2 (of_decide_eq_false e))
        · exact ih2 _ (hst.1 (of_decide_eq_true e))
end
end
section
/-! ===== both searches for pieces agree ===== -/
def TT (A : Int → Int → Bool) (o : Bool) (i j : Int) : Bool := decide (0 ≤ i ∧ i < 25 ∧ 0 ≤ j ∧ j < 25) && (A i j ^^ o)
theorem tt_o (A : Int → Int → Bool) (o : Bool) : SO (TT A o) := by
  intro i j h
  unfold TT
  rw [decide_eq_false h]; rfl
theorem tt_in {A : Int → Int → Bool} {o : Bool} {i j : Int} (h : TT A o i j = true) : (0 ≤ i ∧ i < 25 ∧ 0 ≤ j ∧ j < 25) ∧ A i j = !o := by
  unfold TT at h
  rw [Bool.and_eq_true, decide_eq_true_eq] at h
  refine ⟨h.1, ?_⟩
  have h2 := h.2
  revert h2
  cases A i j <;> cases o <;> decide
theorem tt_mk {A : Int → Int → Bool} {o : Bool} {i j : Int} (h : 0 ≤ i ∧ i < 25 ∧ 0 ≤ j ∧ j < 25) (hA : A i j = !o) : TT A o i j = true := by
  unfold TT
  rw [decide_eq_true h, hA]
  cases o <;> rfl
theorem tt_dg {A : Int → Int → Bool} (hC : Cl A) (o : Bool) : DG (TT A o) := by
  intro f hf n d n0 n1 d0 d1 ha h1 h2
  have hr := alw_r ⟨n0, n1⟩ ha
  have hal := of_decide_eq_true ha
  rw [hr.2.2.1, hr.2.2.2] at h2 ⊢
  generalize hi : n / 25 = i at *
  generalize hj : n % 25 = j at *
  have hdi : d / 3 - 1 = -1 ∨ d / 3 - 1 = 0 ∨ d / 3 - 1 = 1 := by omega
  have hdj : d % 3 - 1 = -1 ∨ d % 3 - 1 = 0 ∨ d % 3 - 1 = 1 := by omega
  generalize d / 3 - 1 = di at *
  generalize d % 3 - 1 = dj at *
  obtain ⟨r1, a1⟩ := tt_in h1
  obtain ⟨r2, a2⟩ := tt_in h2
  have hH : ∀ a b c : Int, (c = a + 1 ∨ c = a - 1 ∨ c = a) → TT A o a b = true → TT A o c b = true → f a b = f c b := by
    intro a b c hc ha hb
    rcases hc with w | w | w
    · subst w; exact hf.1 a b ha hb
    · subst w
      have := hf.1 (a - 1) b hb (by rw [show a - 1 + 1 = a by omega]; exact ha)
      rw [show a - 1 + 1 = a by omega] at this
      exact this.symm
    · rw [w]
  have hV : ∀ a b c : Int, (c = b + 1 ∨ c = b - 1 ∨ c = b) → TT A o a b = true → TT A o a c = true → f a b = f a c := by
    intro a b c hc ha hb
    rcases hc with w | w | w
    · subst w; exact hf.2 a b ha hb
    · subst w
      have := hf.2 a (b - 1) hb (by rw [show b - 1 + 1 = b by omega]; exact ha)
      rw [show b - 1 + 1 = b by omega] at this
      exact this.symm
    · rw [w]
  by_cases z1 : di = 0
  · rw [z1, show i + 0 = i by omega] at h2 ⊢
    exact hV i j (j + dj) (by omega) h1 h2
  · by_cases z2 : dj = 0
    · rw [z2, show j + 0 = j by omega] at h2 ⊢
      exact hH i j (i + di) (by omega) h1 h2
    · have hpar : (i + j) % 2 = 0 := by omega
      have mid : A (i + di) j = !o := by
        cases o with
        | false =>
          rw [Bool.not_false] at *
          by_cases p : i % 2 = 1
          · have := (hC i j a1).1 p
            rcases hdi with w | w | w
            · rw [w]; exact this.1
            · omega
            · rw [w]; exact this.2
          · have := (hC (i + di) (j + dj) a2).2 (by omega)
            rcases hdj with w | w | w
            · rw [w, show j + -1 + 1 = j by omega] at this; exact this.2
            · omega
            · rw [w, show j + 1 - 1 = j by omega] at this; exact this.1
        | true =>
          rw [Bool.not_true] at *
          cases e : A (i + di) j with
          | false => rfl
          | true =>
            exfalso
            by_cases p : i % 2 = 1
            · have := (hC (i + di) j e).2 (by omega)
              rcases hdj with w | w | w
              · rw [w] at a2; rw [show j + -1 = j - 1 by omega, this.1] at a2; cases a2
              · omega
              · rw [w, this.2] at a2; cases a2
            · have := (hC (i + di) j e).1 (by omega)
              rcases hdi with w | w | w
              · rw [w, show i + -1 + 1 = i by omega, a1] at this; cases this.2
              · omega
              · rw [w, show i + 1 - 1 = i by omega, a1] at this; cases this.1
      have hm : TT A o (i + di) j = true := tt_mk (by omega) mid
      rw [hH i j (i + di) (by omega) h1 hm]
      exact hV (i + di) j (j + dj) (by omega) hm h2
/-- the labels at the end -/
def YF (T : Int → Int → Bool) (lb : Int → Int) (lab : Nat → Int32) : Prop := LPq T lb lab ∧ CF T (fun i j => lb (25 * i + j))
theorem yf_mk {T : Int → Int → Bool} (hO : SO T) {lb : Int → Int} {lab : Nat → Int32} (h : LPq T lb lab) (hf : ∀ p : Int, 0 ≤ p → p < 625 → T (p / 25) (p % 25) = true → lw lb p 9 = lb p) : YF T lb lab := by
  have key : ∀ p d : Int, 0 ≤ p → p < 625 → 0 ≤ d → d < 9 → T (p / 25) (p % 25) = true → alw p d = true → T (nb p d / 25) (nb p d % 25) = true → lb p ≤ lb (nb p d) := by
    intro p d p0 p1 d0 d1 hT ha hT'
    have hr := alw_r ⟨p0, p1⟩ ha
    have := (h (nb p d) hr.1 hr.2.1).2.2 hT'
    have := lw_m lb p 9 d d0 (by omega) ha this.1
    rw [hf p p0 p1 hT] at this
    exact this
  have hin : ∀ i j : Int, T i j = true → 0 ≤ i ∧ i < 25 ∧ 0 ≤ j ∧ j < 25 := fun i j hT => by
    apply Classical.byContradiction
    intro w
    rw [hO i j w] at hT
    cases hT
  refine ⟨h, fun i j h1 h2 => ?_, fun i j h1 h2 => ?_⟩
  · have g1 := hin _ _ h1
    have g2 := hin _ _ h2
    have e1 : (25 * i + j) / 25 = i := by omega
    have e2 : (25 * i + j) % 25 = j := by omega
    have e3 : (25 * (i + 1) + j) / 25 = i + 1 := by omega
    have e4 : (25 * (i + 1) + j) % 25 = j := by omega
    have n7 : nb (25 * i + j) 7 = 25 * (i + 1) + j := by unfold nb; omega
    have n1 : nb (25 * (i + 1) + j) 1 = 25 * i + j := by unfold nb; omega
    have k1 := key (25 * i + j) 7 (by omega) (by omega) (by omega) (by omega) (by rw [e1, e2]; exact h1) (decide_eq_true (by rw [e1, e2]; omega)) (by rw [n7, e3, e4]; exact h2)
    have k2 := key (25 * (i + 1) + j) 1 (by omega) (by omega) (by omega) (by omega) (by rw [e3, e4]; exact h2) (decide_eq_true (by rw [e3, e4]; omega)) (by rw [n1, e1, e2]; exact h1)
    rw [n7] at k1
    rw [n1] at k2
    show lb (25 * i + j) = lb (25 * (i + 1) + j)
    omega
  · have g1 := hin _ _ h1
    have g2 := hin _ _ h2
    have e1 : (25 * i + j) / 25 = i := by omega
    have e2 : (25 * i + j) % 25 = j := by omega
    have e3 : (25 * i + (j + 1)) / 25 = i := by omega
    have e4 : (25 * i + (j + 1)) % 25 = j + 1 := by omega
    have n7 : nb (25 * i + j) 5 = 25 * i + (j + 1) := by unfold nb; omega
    have n1 : nb (25 * i + (j + 1)) 3 = 25 * i + j := by unfold nb; omega
    have k1 := key (25 * i + j) 5 (by omega) (by omega) (by omega) (by omega) (by rw [e1, e2]; exact h1) (decide_eq_true (by rw [e1, e2]; omega)) (by rw [n7, e3, e4]; exact h2)
    have k2 := key (25 * i + (j + 1)) 3 (by omega) (by omega) (by omega) (by omega) (by rw [e3, e4]; exact h2) (decide_eq_true (by rw [e3, e4]; omega)) (by rw [n1, e1, e2]; exact h1)
    rw [n7] at k1
    rw [n1] at k2
    show lb (25 * i + j) = lb (25 * i + (j + 1))
    omega
section
variable {T : Int → Int → Bool} {n : Int} {F G jr st rt lb : Int → Int} {rn : Int → Int → Int} {rfr rto par cel opn rst lab : Nat → Int32}
theorem pc_eqv (hX : FB T n F G jr st rn rt rfr rto par cel opn rst) (hY : YF T lb lab) (hO : SO T) {i j i' j' : Int} (h : T i j = true) (h' : T i' j' = true) : rt (rn i j) = rt (rn i' j') ↔ lb (25 * i + j) = lb (25 * i' + j') := by
  obtain ⟨_, _, hTB, _, _, hRN, hJV, hCF⟩ := hX
  have hin : ∀ i j : Int, T i j = true → 0 ≤ i ∧ i < 25 ∧ 0 ≤ j ∧ j < 25 := fun i j hT => by
    apply Classical.byContradiction
    intro w
    rw [hO i j w] at hT
    cases hT
  constructor
  · intro e
    have key : ∀ i j : Int, T i j = true → lb (25 * i + j) = lb (25 * F (rt (rn i j)) + jr (rt (rn i j))) := by
      intro i j hT
      obtain ⟨a1, a2, a3⟩ := hRN i j hT
      have hR := hTB.1 _ a1.1 a1.2
      have e1 := cf_run hY.2 hR.2.2.2.2.2.1 (i - F (rn i j)).toNat i (by omega) a3.2
      have e2 := hJV.2.2 _ hY.2 (rn i j) a1.1 a1.2
      rw [e2, ← e1, a2]
    rw [key i j h, key i' j' h', e]
  · intro e
    have key : ∀ i j : Int, T i j = true → rt (rn i j) = rt (rn (lb (25 * i + j) / 25) (lb (25 * i + j) % 25)) := by
      intro i j hT
      have g := hin i j hT
      have e1 : (25 * i + j) / 25 = i := by omega
      have e2 : (25 * i + j) % 25 = j := by omega
      have := ((hY.1 (25 * i + j) (by omega) (by omega)).2.2 (by rw [e1, e2]; exact hT)).2.2.2 _ hCF
      rw [e1, e2] at this
      exact this.symm
    rw [key i j h, key i' j' h', e]
def hl (lb : Int → Int) (m : Int) : Prop := ∃ q : Int, 0 ≤ q ∧ q < 625 ∧ lb q = m ∧ (q / 25 = 0 ∨ q / 25 = 24 ∨ q % 25 = 0 ∨ q % 25 = 24)
theorem pc_open (hX : FB T n F G jr st rn rt rfr rto par cel opn rst) (hY : YF T lb lab) (hO : SO T) {i j : Int} (h : T i j = true) : oo T rn rt (rt (rn i j)) ↔ hl lb (lb (25 * i + j)) := by
  have hin : ∀ i j : Int, T i j = true → 0 ≤ i ∧ i < 25 ∧ 0 ≤ j ∧ j < 25 := fun i j hT => by
    apply Classical.byContradiction
    intro w
    rw [hO i j w] at hT
    cases hT
  constructor
  · rintro ⟨a, b, hT, hf, e⟩
    have g := hin a b hT
    refine ⟨25 * a + b, by omega, by omega, (pc_eqv hX hY hO hT h).mp e, ?_⟩
    rw [show (25 * a + b) / 25 = a by omega, show (25 * a + b) % 25 = b by omega]
    exact hf
  · rintro ⟨q, q0, q1, e, hf⟩
    have hpos : 0 ≤ lb (25 * i + j) := by
      have g := hin i j h
      refine ((hY.1 (25 * i + j) (by omega) (by omega)).2.2 ?_).1
      rw [show (25 * i + j) / 25 = i by omega, show (25 * i + j) % 25 = j by omega]
      exact h
    have hT : T (q / 25) (q % 25) = true := by
      cases x : T (q / 25) (q % 25) with
      | true => rfl
      | false =>
        have := (hY.1 q q0 q1).2.1 x
        omega
    refine ⟨q / 25, q % 25, hT, hf, (pc_eqv hX hY hO hT h).mpr ?_⟩
    rw [show 25 * (q / 25) + q % 25 = q by omega]
    exact e
theorem pc_cnt (hX : FB T n F G jr st rn rt rfr rto par cel opn rst) (hY : YF T lb lab) (hO : SO T) (fz : Bool) :
    cn (fun k => decide (rt k = k) && (fz || !ex (oo T rn rt k))) n.toNat = cn (fun m => decide (lb m = m) && (fz || !ex (hl lb m))) 625 := by
  have hX' := hX
  obtain ⟨hn0, hn1, hTB, _, _, hRN, hJV, hCF⟩ := hX'
  obtain ⟨⟨p, dp, hU⟩, _, _⟩ := hJV
  have hk : ∀ k : Int, 0 ≤ k → k < n → T (F k) (jr k) = true ∧ rn (F k) (jr k) = k ∧ (0 ≤ F k ∧ F k < 25 ∧ 0 ≤ jr k ∧ jr k < 25) := by
    intro k k0 k1
    have hR := hTB.1 k k0 k1
    refine ⟨hR.2.2.2.2.2.1 _ (Int.le_refl _) hR.2.1, rn_u hTB hRN k0 k1 ⟨Int.le_refl _, hR.2.1⟩, hR.1, ?_, hR.2.2.2.1, ?_⟩
    · have := hR.2.1; have := hR.2.2.1; omega
    · have := hR.2.2.2.2.1; omega
  have hm : ∀ m : Int, 0 ≤ m → m < 625 → lb m = m → T (m / 25) (m % 25) = true := by
    intro m m0 m1 e
    cases x : T (m / 25) (m % 25) with
    | true => rfl
    | false =>
      have := (hY.1 m m0 m1).2.1 x
      omega
  have hidem : ∀ q : Int, 0 ≤ q → q < 625 → T (q / 25) (q % 25) = true → 0 ≤ lb q ∧ lb q < 625 ∧ lb (lb q) = lb q := by
    intro q q0 q1 hT
    obtain ⟨a, b, c, d⟩ := (hY.1 q q0 q1).2.2 hT
    refine ⟨a, by omega, ?_⟩
    have := d _ hY.2
    rw [show 25 * (lb q / 25) + lb q % 25 = lb q by omega, show 25 * (q / 25) + q % 25 = q by omega] at this
    exact this
  have le1 : cn (fun k => decide (rt k = k) && (fz || !ex (oo T rn rt k))) n.toNat ≤ cn (fun m => decide (lb m = m) && (fz || !ex (hl lb m))) 625 := by
    refine cn_inj (fun k => lb (25 * F k + jr k)) 625 n.toNat _ _ (fun k k0 k1 hp => ?_) (fun k k' k0 k1 hp k0' k1' hp' e => ?_)
    · rw [Bool.and_eq_true, decide_eq_true_eq] at hp
      obtain ⟨g1, g2, g3⟩ := hk k k0 (by omega)
      have e1 : (25 * F k + jr k) / 25 = F k := by omega
      have e2 : (25 * F k + jr k) % 25 = jr k := by omega
      obtain ⟨i1, i2, i3⟩ := hidem (25 * F k + jr k) (by omega) (by omega) (by rw [e1, e2]; exact g1)
      refine ⟨i1, by omega, ?_⟩
      rw [i3, decide_eq_true rfl, Bool.true_and, ← ex_c (pc_open hX hY hO g1), g2, hp.1]
      exact hp.2
    · rw [Bool.and_eq_true, decide_eq_true_eq] at hp hp'
      obtain ⟨g1, g2, g3⟩ := hk k k0 (by omega)
      obtain ⟨g1', g2', g3'⟩ := hk k' k0' (by omega)
      have := (pc_eqv hX hY hO g1 g1').mpr e
      rw [g2, g2', hp.1, hp'.1] at this
      exact this
  have le2 : cn (fun m => decide (lb m = m) && (fz || !ex (hl lb m))) 625 ≤ cn (fun k => decide (rt k = k) && (fz || !ex (oo T rn rt k))) n.toNat := by
    refine cn_inj (fun m => rt (rn (m / 25) (m % 25))) n.toNat 625 _ _ (fun m m0 m1 hp => ?_) (fun m m' m0 m1 hp m0' m1' hp' e => ?_)
    · rw [Bool.and_eq_true, decide_eq_true_eq] at hp
      have hT := hm m m0 (by omega) hp.1
      obtain ⟨a1, a2, a3⟩ := hRN _ _ hT
      obtain ⟨f1, f2, f3, f4, f5, f6, f7, f8⟩ := hU _ a1.1 a1.2
      refine ⟨f4.1, by omega, ?_⟩
      rw [f6, decide_eq_true rfl, Bool.true_and, ex_c (pc_open hX hY hO hT), show 25 * (m / 25) + m % 25 = m by omega, hp.1]
      exact hp.2
    · rw [Bool.and_eq_true, decide_eq_true_eq] at hp hp'
      have hT := hm m m0 (by omega) hp.1
      have hT' := hm m' m0' (by omega) hp'.1
      have := (pc_eqv hX hY hO hT hT').mp e
      rw [show 25 * (m / 25) + m % 25 = m by omega, show 25 * (m' / 25) + m' % 25 = m' by omega, hp.1, hp'.1] at this
      exact this
  omega
end
end
section
section
variable {cy : Int32} {lys fil mad st px py lab : Nat → Int32}
theorem yy_pieces {post : SY → Prop} {L : Int → Int → Int → Bool} (hY : RY L lys) {l : Int} (hl : 0 ≤ l ∧ l < 6) (hC : Cl (L l)) (o : Bool)
    (h : ∀ lb lab', YF (TT (L l) o) lb lab' → post (cy, lys, fil, mad, st, px, py, lab')) : wpY_pieces post (cy, lys, fil, mad, st, px, py, lab) (jI l) (b2 o) := by
  simp only [wpY_pieces]
  have hT : ∀ q : Int, 0 ≤ q → q < 625 → TT (L l) o (q / 25) (q % 25) = (L l (q / 25) (q % 25) ^^ o) := by
    intro q q0 q1
    unfold TT
    rw [decide_eq_true (by omega), Bool.true_and]
  refine lj_a (fun n i s => wY_pieces_2 post (jI l) (b2 o) cy n (jI i) lys fil mad st px py s) (fun i => fl lab i (fun n => jI (if TT (L l) o (n / 25) (n % 25) = true then n else -1))) 0 625 (fl_0 _ _).symm (by omega) (fun n => ?_) (fun n i h0 h1 ih => ?_)
  · simp (disch := omega) only [wY_pieces_2, jl_0, jl_1, jl_2, jl_3, jl_4, jl_5, jl_6, jl_7, jl_8, jl_9, jl_12, jl_13, jl_16, jl_24, jl_25, jl_50, jl_168, jl_169, jl_624, jl_625, jl_1000, jI_add, jI_sub, jI_mul, jI_neg, jI_div, ie_mod, jI_leT, jI_leF, jI_ltT, jI_ltF, jI_eqT, jI_eqF, jI_cl, jI_inT, forall_eq, true_implies, false_implies, implies_true, not_true_eq_false, not_false_eq_true, true_and, and_true, b2_0, b2_z]
    have hLP : LPq (TT (L l) o) (fun n => if TT (L l) o (n / 25) (n % 25) = true then n else -1) (fl lab 625 (fun n => jI (if TT (L l) o (n / 25) (n % 25) = true then n else -1))) := by
      intro q q0 q1
      refine ⟨fl_r ⟨q0, q1⟩, fun e => ?_, fun e => ?_⟩
      · dsimp only; rw [e]; rfl
      · dsimp only
        rw [if_pos e]
        exact ⟨q0, Int.le_refl _, e, fun _ _ => rfl⟩
    refine ⟨(sm (fun n => if TT (L l) o (n / 25) (n % 25) = true then n else -1) 625 + 625).toNat + 1 + 1, yy_pc44 (tt_dg hC o) (fun lb lab' hL hf => h lb lab' (yf_mk (tt_o _ _) hL hf)) _ _ _ hLP (by omega)⟩
  · have hx := hT i h0 h1
    simp (disch := omega) only [wY_pieces_2, jl_0, jl_1, jl_2, jl_3, jl_4, jl_5, jl_6, jl_7, jl_8, jl_9, jl_12, jl_13, jl_16, jl_24, jl_25, jl_50, jl_168, jl_169, jl_624, jl_625, jl_1000, jI_add, jI_sub, jI_mul, jI_neg, jI_div, ie_mod, jI_leT, jI_leF, jI_ltT, jI_ltF, jI_eqT, jI_eqF, jI_cl, jI_inT, forall_eq, true_implies, false_implies, implies_true, not_true_eq_false, not_false_eq_true, true_and, and_true, b2_0, b2_z, ry_n hY, b2_inj]
    by_cases w : L l (i / 25) (i % 25) = o
    · refine br_t w ?_
      rw [fl_S _ _ h0 (by rw [hx, w, if_neg (by cases o <;> decide)])]
      exact ih
    · refine br_f w ?_
      rw [fl_S _ _ h0 (by
        rw [hx, if_pos ?_]
        revert w
        cases L l (i / 25) (i % 25) <;> cases o <;> decide)]
      exact ih
variable {T : Int → Int → Bool} {lb : Int → Int}
theorem yy_cntp {post : Int32 → Prop} (hL : YF T lb lab) (h : post (jI (cn (fun m => decide (lb m = m)) 625))) : wpY_countPieces post (cy, lys, fil, mad, st, px, py, lab) := by
  simp only [wpY_countPieces]
  refine lj_a (fun n q s => wY_countPieces_4 post cy lys fil mad st px py lab n s (jI q)) (fun q => jI (cn (fun m => decide (lb m = m)) q.toNat)) 0 625 rfl (by omega) (fun n => ?_) (fun n q q0 q1 ih => ?_)
  · simp (disch := omega) only [wY_countPieces_4, jl_0, jl_1, jl_2, jl_3, jl_4, jl_5, jl_6, jl_7, jl_8, jl_9, jl_12, jl_13, jl_16, jl_24, jl_25, jl_50, jl_168, jl_169, jl_624, jl_625, jl_1000, jI_add, jI_sub, jI_mul, jI_neg, jI_div, ie_mod, jI_leT, jI_leF, jI_ltT, jI_ltF, jI_eqT, jI_eqF, jI_cl, jI_inT, forall_eq, true_implies, false_implies, implies_true, not_true_eq_false, not_false_eq_true, true_and, and_true, b2_0, b2_z]; exact h
  · obtain ⟨g1, g2, g3⟩ := lp_r hL.1 q q0 q1
    rw [cn_s2 _ q0] at ih
    by_cases w : lb q = q
    · rw [decide_eq_true w] at ih
      simp (disch := omega) only [wY_countPieces_4, jl_0, jl_1, jl_2, jl_3, jl_4, jl_5, jl_6, jl_7, jl_8, jl_9, jl_12, jl_13, jl_16, jl_24, jl_25, jl_50, jl_168, jl_169, jl_624, jl_625, jl_1000, jI_add, jI_sub, jI_mul, jI_neg, jI_div, ie_mod, jI_leT, jI_leF, jI_ltT, jI_ltF, jI_eqT, jI_eqF, jI_cl, jI_inT, forall_eq, true_implies, false_implies, implies_true, not_true_eq_false, not_false_eq_true, true_and, and_true, b2_0, b2_z, g1]
      exact ih
    · rw [decide_eq_false w, show o1 false = 0 from rfl, Int.add_zero] at ih
      simp (disch := omega) only [wY_countPieces_4, jl_0, jl_1, jl_2, jl_3, jl_4, jl_5, jl_6, jl_7, jl_8, jl_9, jl_12, jl_13, jl_16, jl_24, jl_25, jl_50, jl_168, jl_169, jl_624, jl_625, jl_1000, jI_add, jI_sub, jI_mul, jI_neg, jI_div, ie_mod, jI_leT, jI_leF, jI_ltT, jI_ltF, jI_eqT, jI_eqF, jI_cl, jI_inT, forall_eq, true_implies, false_implies, implies_true, not_true_eq_false, not_false_eq_true, true_and, and_true, b2_0, b2_z, g1]
      exact ih
theorem yy_cnth {post : Int32 → Prop} (hL : YF T lb lab) (h : post (jI (cn (fun m => decide (lb m = m) && !ex (hl lb m)) 625))) : wpY_countHoles post (cy, lys, fil, mad, st, px, py, lab) := by
  simp only [wpY_countHoles]
  refine lj_a (fun n q s => wY_countHoles_4 post cy lys fil mad st px py lab n s (jI q)) (fun q => jI (cn (fun m => decide (lb m = m) && !ex (hl lb m)) q.toNat)) 0 625 rfl (by omega) (fun n => ?_) (fun n q q0 q1 ih => ?_)
  · simp (disch := omega) only [wY_countHoles_4, jl_0, jl_1, jl_2, jl_3, jl_4, jl_5, jl_6, jl_7, jl_8, jl_9, jl_12, jl_13, jl_16, jl_24, jl_25, jl_50, jl_168, jl_169, jl_624, jl_625, jl_1000, jI_add, jI_sub, jI_mul, jI_neg, jI_div, ie_mod, jI_leT, jI_leF, jI_ltT, jI_ltF, jI_eqT, jI_eqF, jI_cl, jI_inT, forall_eq, true_implies, false_implies, implies_true, not_true_eq_false, not_false_eq_true, true_and, and_true, b2_0, b2_z]; exact h
  · obtain ⟨g1, g2, g3⟩ := lp_r hL.1 q q0 q1
    rw [cn_s2 _ q0] at ih
    generalize cn (fun m => decide (lb m = m) && !ex (hl lb m)) q.toNat = s at *
    have k0 : (decide (lb q = q) && !ex (hl lb q)) = false → ∃ n30, wY_countHoles_30 post (wY_countHoles_4 post cy lys fil mad st px py lab n) (jI s) (jI q) cy lys fil mad st px py lab n30 (jI 0) (jI 0) := by
      intro e
      rw [e, show o1 false = 0 from rfl, Int.add_zero] at ih
      refine ⟨1, ?_⟩
      simp (disch := omega) only [wY_countHoles_30, wY_countHoles_99, jl_0, jl_1, jl_2, jl_3, jl_4, jl_5, jl_6, jl_7, jl_8, jl_9, jl_12, jl_13, jl_16, jl_24, jl_25, jl_50, jl_168, jl_169, jl_624, jl_625, jl_1000, jI_add, jI_sub, jI_mul, jI_neg, jI_div, ie_mod, jI_leT, jI_leF, jI_ltT, jI_ltF, jI_eqT, jI_eqF, jI_cl, jI_inT, forall_eq, true_implies, false_implies, implies_true, not_true_eq_false, not_false_eq_true, true_and, and_true, b2_0, b2_z]
      exact ih
    by_cases w : lb q = q
    · simp (disch := omega) only [wY_countHoles_4, jl_0, jl_1, jl_2, jl_3, jl_4, jl_5, jl_6, jl_7, jl_8, jl_9, jl_12, jl_13, jl_16, jl_24, jl_25, jl_50, jl_168, jl_169, jl_624, jl_625, jl_1000, jI_add, jI_sub, jI_mul, jI_neg, jI_div, ie_mod, jI_leT, jI_leF, jI_ltT, jI_ltF, jI_eqT, jI_eqF, jI_cl, jI_inT, forall_eq, true_implies, false_implies, implies_true, not_true_eq_false, not_false_eq_true, true_and, and_true, b2_0, b2_z, g1]
      rw [decide_eq_true w, Bool.true_and] at ih
      have hz : hl lb q → wY_countHoles_4 post cy lys fil mad st px py lab n (jI s) (jI (q + 1)) := fun e => by
        rw [ex_T e, show o1 (!true) = 0 from rfl, Int.add_zero] at ih; exact ih
      refine lj_i (fun n30 m x => wY_countHoles_30 post (wY_countHoles_4 post cy lys fil mad st px py lab n) (jI s) (jI q) cy lys fil mad st px py lab n30 x (jI m)) (fun m x => (x = jI 1 ∧ ∀ p : Int, 0 ≤ p → p < m → ¬ (lb p = q ∧ (p / 25 = 0 ∨ p / 25 = 24 ∨ p % 25 = 0 ∨ p % 25 = 24))) ∨ (x = jI 0 ∧ hl lb q)) 0 625 (Or.inl ⟨rfl, fun p p0 p1 => by omega⟩) (by omega) (fun n30 x hI => ?_) (fun n30 m x m0 m1 hI ih2 => ?_)
      · rcases hI with ⟨e, hI⟩ | ⟨e, hI⟩
        · rw [e]
          rw [ex_F (fun z => by obtain ⟨p, p0, p1, p2, p3⟩ := z; exact hI p p0 p1 ⟨p2, p3⟩)] at ih
          simp (disch := omega) only [wY_countHoles_30, wY_countHoles_99, jl_0, jl_1, jl_2, jl_3, jl_4, jl_5, jl_6, jl_7, jl_8, jl_9, jl_12, jl_13, jl_16, jl_24, jl_25, jl_50, jl_168, jl_169, jl_624, jl_625, jl_1000, jI_add, jI_sub, jI_mul, jI_neg, jI_div, ie_mod, jI_leT, jI_leF, jI_ltT, jI_ltF, jI_eqT, jI_eqF, jI_cl, jI_inT, forall_eq, true_implies, false_implies, implies_true, not_true_eq_false, not_false_eq_true, true_and, and_true, b2_0, b2_z]
          exact ih
        · rw [e]
          simp (disch := omega) only [wY_countHoles_30, wY_countHoles_99, jl_0, jl_1, jl_2, jl_3, jl_4, jl_5, jl_6, jl_7, jl_8, jl_9, jl_12, jl_13, jl_16, jl_24, jl_25, jl_50, jl_168, jl_169, jl_624, jl_625, jl_1000, jI_add, jI_sub, jI_mul, jI_neg, jI_div, ie_mod, jI_leT, jI_leF, jI_ltT, jI_ltF, jI_eqT, jI_eqF, jI_cl, jI_inT, forall_eq, true_implies, false_implies, implies_true, not_true_eq_false, not_false_eq_true, true_and, and_true, b2_0, b2_z]
          exact hz hI
      · rcases hI with ⟨e, hI⟩ | ⟨e, hI⟩
        · rw [e]
          obtain ⟨f1, f2, f3⟩ := lp_r hL.1 m m0 m1
          by_cases c1 : lb m = q
          · by_cases c2 : m / 25 = 0
            · simp (disch := omega) only [wY_countHoles_30, jl_0, jl_1, jl_2, jl_3, jl_4, jl_5, jl_6, jl_7, jl_8, jl_9, jl_12, jl_13, jl_16, jl_24, jl_25, jl_50, jl_168, jl_169, jl_624, jl_625, jl_1000, jI_add, jI_sub, jI_mul, jI_neg, jI_div, ie_mod, jI_leT, jI_leF, jI_ltT, jI_ltF, jI_eqT, jI_eqF, jI_cl, jI_inT, forall_eq, true_implies, false_implies, implies_true, not_true_eq_false, not_false_eq_true, true_and, and_true, b2_0, b2_z, f1]
              exact ih2 _ (Or.inr ⟨rfl, m, m0, m1, c1, by omega⟩)
            · by_cases c3 : m / 25 = 24
              · simp (disch := omega) only [wY_countHoles_30, jl_0, jl_1, jl_2, jl_3, jl_4, jl_5, jl_6, jl_7, jl_8, jl_9, jl_12, jl_13, jl_16, jl_24, jl_25, jl_50, jl_168, jl_169, jl_624, jl_625, jl_1000, jI_add, jI_sub, jI_mul, jI_neg, jI_div, ie_mod, jI_leT, jI_leF, jI_ltT, jI_ltF, jI_eqT, jI_eqF, jI_cl, jI_inT, forall_eq, true_implies, false_implies, implies_true, not_true_eq_false, not_false_eq_true, true_and, and_true, b2_0, b2_z, f1]
                exact ih2 _ (Or.inr ⟨rfl, m, m0, m1, c1, by omega⟩)
              · by_cases c4 : m % 25 = 0
                · simp (disch := omega) only [wY_countHoles_30, jl_0, jl_1, jl_2, jl_3, jl_4, jl_5, jl_6, jl_7, jl_8, jl_9, jl_12, jl_13, jl_16, jl_24, jl_25, jl_50, jl_168, jl_169, jl_624, jl_625, jl_1000, jI_add, jI_sub, jI_mul, jI_neg, jI_div, ie_mod, jI_leT, jI_leF, jI_ltT, jI_ltF, jI_eqT, jI_eqF, jI_cl, jI_inT, forall_eq, true_implies, false_implies, implies_true, not_true_eq_false, not_false_eq_true, true_and, and_true, b2_0, b2_z, f1]
                  exact ih2 _ (Or.inr ⟨rfl, m, m0, m1, c1, by omega⟩)
                · by_cases c5 : m % 25 = 24
                  · simp (disch := omega) only [wY_countHoles_30, jl_0, jl_1, jl_2, jl_3, jl_4, jl_5, jl_6, jl_7, jl_8, jl_9, jl_12, jl_13, jl_16, jl_24, jl_25, jl_50, jl_168, jl_169, jl_624, jl_625, jl_1000, jI_add, jI_sub, jI_mul, jI_neg, jI_div, ie_mod, jI_leT, jI_leF, jI_ltT, jI_ltF, jI_eqT, jI_eqF, jI_cl, jI_inT, forall_eq, true_implies, false_implies, implies_true, not_true_eq_false, not_false_eq_true, true_and, and_true, b2_0, b2_z, f1]
                    exact ih2 _ (Or.inr ⟨rfl, m, m0, m1, c1, by omega⟩)
                  · simp (disch := omega) only [wY_countHoles_30, jl_0, jl_1, jl_2, jl_3, jl_4, jl_5, jl_6, jl_7, jl_8, jl_9, jl_12, jl_13, jl_16, jl_24, jl_25, jl_50, jl_168, jl_169, jl_624, jl_625, jl_1000, jI_add, jI_sub, jI_mul, jI_neg, jI_div, ie_mod, jI_leT, jI_leF, jI_ltT, jI_ltF, jI_eqT, jI_eqF, jI_cl, jI_inT, forall_eq, true_implies, false_implies, implies_true, not_true_eq_false, not_false_eq_true, true_and, and_true, b2_0, b2_z, f1]
                    refine ih2 _ (Or.inl ⟨rfl, fun p p0 p1 => ?_⟩)
                    by_cases z : p = m
                    · subst z; omega
                    · exact hI p p0 (by omega)
          · simp (disch := omega) only [wY_countHoles_30, jl_0, jl_1, jl_2, jl_3, jl_4, jl_5, jl_6, jl_7, jl_8, jl_9, jl_12, jl_13, jl_16, jl_24, jl_25, jl_50, jl_168, jl_169, jl_624, jl_625, jl_1000, jI_add, jI_sub, jI_mul, jI_neg, jI_div, ie_mod, jI_leT, jI_leF, jI_ltT, jI_ltF, jI_eqT, jI_eqF, jI_cl, jI_inT, forall_eq, true_implies, false_implies, implies_true, not_true_eq_false, not_false_eq_true, true_and, and_true, b2_0, b2_z, f1]
            refine ih2 _ (Or.inl ⟨rfl, fun p p0 p1 => ?_⟩)
            by_cases z : p = m
            · subst z; exact fun y => c1 y.1
            · exact hI p p0 (by omega)
        · rw [e]
          simp (disch := omega) only [wY_countHoles_30, wY_countHoles_99, jl_0, jl_1, jl_2, jl_3, jl_4, jl_5, jl_6, jl_7, jl_8, jl_9, jl_12, jl_13, jl_16, jl_24, jl_25, jl_50, jl_168, jl_169, jl_624, jl_625, jl_1000, jI_add, jI_sub, jI_mul, jI_neg, jI_div, ie_mod, jI_leT, jI_leF, jI_ltT, jI_ltF, jI_eqT, jI_eqF, jI_cl, jI_inT, forall_eq, true_implies, false_implies, implies_true, not_true_eq_false, not_false_eq_true, true_and, and_true, b2_0, b2_z]
          exact hz hI
    · simp (disch := omega) only [wY_countHoles_4, jl_0, jl_1, jl_2, jl_3, jl_4, jl_5, jl_6, jl_7, jl_8, jl_9, jl_12, jl_13, jl_16, jl_24, jl_25, jl_50, jl_168, jl_169, jl_624, jl_625, jl_1000, jI_add, jI_sub, jI_mul, jI_neg, jI_div, ie_mod, jI_leT, jI_leF, jI_ltT, jI_ltF, jI_eqT, jI_eqF, jI_cl, jI_inT, forall_eq, true_implies, false_implies, implies_true, not_true_eq_false, not_false_eq_true, true_and, and_true, b2_0, b2_z, g1]
      exact k0 (by rw [decide_eq_false w, Bool.false_and])
end
theorem tt_w {L : Int → Int → Int → Bool} (hO : RO L) (l j : Int) (hj : 0 ≤ j ∧ j < 25) : wd (fun i => L l i j) ^^^ jI 0 = wd (fun i => TT (L l) false i j) ∧ wd (fun i => L l i j) ^^^ 33554431 = wd (fun i => TT (L l) true i j) := by
  constructor
  · rw [wd_J0, wd_xor]
    refine wd_c (fun i i0 _ => ?_)
    unfold TT
    by_cases w : i < 25
    · rw [decide_eq_true (by omega)]; simp
    · rw [decide_eq_false (by omega), hO l i j (by omega)]; rfl
  · rw [wd_mF, wd_xor]
    refine wd_c (fun i i0 _ => ?_)
    unfold TT
    by_cases w : i < 25
    · rw [decide_eq_true w, decide_eq_true (by omega)]; simp
    · rw [decide_eq_false w, decide_eq_false (by omega), hO l i j (by omega)]; rfl
theorem i_vc_piece {k : Nat} {u : SX} {v : SY} (I : i_Rel k u v) (hk : k + 5 ≤ 2560) (v1 : Int32) (v2 : Int32) (v3 : Int32) : wpX_piece (fun r u' => wpY_piece (fun r' v' => r' = r ∧ i_Rel (k + 5) u' v') v v1 v2 v3) u v1 v2 v3 := by
  refine rl_el (P := fun u v => wpX_piece (fun r u' => wpY_piece (fun r' v' => r' = r ∧ i_Rel (k + 5) u' v') v v1 v2 v3) u v1 v2 v3) ?_ I
  intro L c xs ys bd rows drawn passed work inner crn rfr rto par cel opn rst lys fil mad st px py lab hR
  obtain ⟨l, a1, a2, rfl⟩ := jI_ex v1
  obtain ⟨x, b1, b2', rfl⟩ := jI_ex v2
  obtain ⟨y, c1, c2, rfl⟩ := jI_ex v3
  by_cases hl : 0 ≤ l ∧ l < 6
  · by_cases hr : 0 ≤ x ∧ x < 13 ∧ 0 ≤ y ∧ y < 13
    · simp (disch := omega) only [wpX_piece, xx_lay, xx_rng, jl_0, jl_1, jl_2, jl_3, jl_4, jl_5, jl_6, jl_7, jl_8, jl_9, jl_12, jl_13, jl_16, jl_24, jl_25, jl_50, jl_168, jl_169, jl_624, jl_625, jl_1000, jI_add, jI_sub, jI_mul, jI_neg, jI_div, ie_mod, jI_leT, jI_leF, jI_ltT, jI_ltF, jI_eqT, jI_eqF, jI_cl, jI_inT, forall_eq, true_implies, false_implies, implies_true, not_true_eq_false, not_false_eq_true, true_and, and_true, b2_0, b2_z, xx_row hR.1 hR.2.2.1, wd_bit]
      refine tf_c (fun e => ?_) (fun e => ?_)
      · simp (disch := omega) only [wpY_piece, yy_lay, yy_rng, jl_0, jl_1, jl_2, jl_3, jl_4, jl_5, jl_6, jl_7, jl_8, jl_9, jl_12, jl_13, jl_16, jl_24, jl_25, jl_50, jl_168, jl_169, jl_624, jl_625, jl_1000, jI_add, jI_sub, jI_mul, jI_neg, jI_div, ie_mod, jI_leT, jI_leF, jI_ltT, jI_ltF, jI_eqT, jI_eqF, jI_cl, jI_inT, forall_eq, true_implies, false_implies, implies_true, not_true_eq_false, not_false_eq_true, true_and, and_true, b2_0, b2_z, yy_in hR.2.1 hR.2.2.1, e]
        exact rl_mk hR
      · have hT0 : TT (L l) false (2 * x) (2 * y) = true := tt_mk (by omega) e
        refine xx_pieces hR.1 hR.2.2.1 (T := TT (L l) false) (tt_o _ _) hl (fz := true) ⟨fun _ => rfl, fun _ => rfl⟩ (fun j j0 j1 => (tt_w hR.2.2.1 l j ⟨j0, j1⟩).1) (fun n F G jr st' rn rt rfr' rto' par' cel' opn' rst' hF => ?_)
        dsimp only
        have hF' := hF
        obtain ⟨hn0, hn1, hTB, hA, hTS, hRN, hJV, hCF⟩ := hF'
        obtain ⟨s1, s2, s3, s4⟩ := hTS (2 * y) (by omega) (by omega)
        obtain ⟨q1, q2, q3⟩ := hRN _ _ hT0
        obtain ⟨⟨p, dp, hU⟩, hV, hS⟩ := hJV
        have hsl : st' (2 * y) ≤ rn (2 * x) (2 * y) := by
          have := s4 _ q1.1 q1.2
          omega
        simp (disch := omega) only [jl_0, jl_1, jl_2, jl_3, jl_4, jl_5, jl_6, jl_7, jl_8, jl_9, jl_12, jl_13, jl_16, jl_24, jl_25, jl_50, jl_168, jl_169, jl_624, jl_625, jl_1000, jI_add, jI_sub, jI_mul, jI_neg, jI_div, ie_mod, jI_leT, jI_leF, jI_ltT, jI_ltF, jI_eqT, jI_eqF, jI_cl, jI_inT, forall_eq, true_implies, false_implies, implies_true, not_true_eq_false, not_false_eq_true, true_and, and_true, b2_0, b2_z, s1]
        refine lj_a (fun m q (_ : Unit) => wX_piece_51 _ (jI x) (jI c) bd rows drawn passed work inner crn rfr' rto' par' cel' opn' rst' m (jI q)) (fun _ => ()) (st' (2 * y)) (rn (2 * x) (2 * y)) rfl hsl (fun m => ?_) (fun m q z0 z1 ih => ?_)
        · obtain ⟨_, g2⟩ := hA _ q1.1 q1.2
          have hR1 := hTB.1 _ q1.1 q1.2
          have hG := hR1.2.2.1
          simp (disch := omega) only [wX_piece_51, jl_0, jl_1, jl_2, jl_3, jl_4, jl_5, jl_6, jl_7, jl_8, jl_9, jl_12, jl_13, jl_16, jl_24, jl_25, jl_50, jl_168, jl_169, jl_624, jl_625, jl_1000, jI_add, jI_sub, jI_mul, jI_neg, jI_div, ie_mod, jI_leT, jI_leF, jI_ltT, jI_ltF, jI_eqT, jI_eqF, jI_cl, jI_inT, forall_eq, true_implies, false_implies, implies_true, not_true_eq_false, not_false_eq_true, true_and, and_true, b2_0, b2_z, g2]
          simp only [wpX_root]
          refine ⟨dp (rn (2 * x) (2 * y)) + 1, xx_root hn1 (k := rn (2 * x) (2 * y)) (fun p2 par2 hU2 => ?_) _ _ p par' hU q1.1 q1.2 rfl (by omega)⟩
          dsimp only
          have hu := hU2 _ q1.1 q1.2
          have hv := (hV _ hu.2.2.2.1.1 hu.2.2.2.1.2 hu.2.2.2.2.2.1).1
          have hrr := hu.2.2.2.1
          simp (disch := omega) only [jl_0, jl_1, jl_2, jl_3, jl_4, jl_5, jl_6, jl_7, jl_8, jl_9, jl_12, jl_13, jl_16, jl_24, jl_25, jl_50, jl_168, jl_169, jl_624, jl_625, jl_1000, jI_add, jI_sub, jI_mul, jI_neg, jI_div, ie_mod, jI_leT, jI_leF, jI_ltT, jI_ltF, jI_eqT, jI_eqF, jI_cl, jI_inT, forall_eq, true_implies, false_implies, implies_true, not_true_eq_false, not_false_eq_true, true_and, and_true, b2_0, b2_z, hv]
          simp (disch := omega) only [wpY_piece, yy_lay, yy_rng, jl_0, jl_1, jl_2, jl_3, jl_4, jl_5, jl_6, jl_7, jl_8, jl_9, jl_12, jl_13, jl_16, jl_24, jl_25, jl_50, jl_168, jl_169, jl_624, jl_625, jl_1000, jI_add, jI_sub, jI_mul, jI_neg, jI_div, ie_mod, jI_leT, jI_leF, jI_ltT, jI_ltF, jI_eqT, jI_eqF, jI_cl, jI_inT, forall_eq, true_implies, false_implies, implies_true, not_true_eq_false, not_false_eq_true, true_and, and_true, b2_0, b2_z, yy_in hR.2.1 hR.2.2.1, e, reduceCtorEq]
          refine yy_pieces hR.2.1 hl (hR.2.2.2.1 l) false (fun lb lab' hYF => ?_)
          dsimp only
          obtain ⟨m1, m2, m3⟩ := lp_r hYF.1 (50 * x + 2 * y) (by omega) (by omega)
          have e50 : 25 * (2 * x) + 2 * y = 50 * x + 2 * y := by omega
          have hpos : 0 ≤ lb (50 * x + 2 * y) := by
            refine ((hYF.1 (50 * x + 2 * y) (by omega) (by omega)).2.2 ?_).1
            rw [show (50 * x + 2 * y) / 25 = 2 * x by omega, show (50 * x + 2 * y) % 25 = 2 * y by omega]
            exact hT0
          have ecc : cc (TT (L l) false) rn rt (rt (rn (2 * x) (2 * y))) = cn (fun m => decide (lb m = lb (50 * x + 2 * y)) && decide (m / 25 % 2 = 1 ∧ m % 25 % 2 = 1)) 625 := by
            unfold cc
            refine cn_c 625 (fun m m0 m1 => ?_)
            cases hT : TT (L l) false (m / 25) (m % 25) with
            | false =>
              have := (hYF.1 m m0 (by omega)).2.1 hT
              rw [decide_eq_false (show ¬ lb m = lb (50 * x + 2 * y) by omega)]
              simp
            | true =>
              have := pc_eqv hF hYF (tt_o _ _) hT hT0
              rw [e50, show 25 * (m / 25) + m % 25 = m by omega] at this
              rw [show decide (rt (rn (m / 25) (m % 25)) = rt (rn (2 * x) (2 * y))) = decide (lb m = lb (50 * x + 2 * y)) from decide_eq_decide.mpr this, Bool.true_and, Bool.and_comm]
          rw [ecc]
          refine lj_a (fun m q s => wY_piece_45 _ (jI x) (jI y) (jI c) lys fil mad st px py lab' m s (jI q)) (fun q => jI (cn (fun m => decide (lb m = lb (50 * x + 2 * y)) && decide (m / 25 % 2 = 1 ∧ m % 25 % 2 = 1)) q.toNat)) 0 625 rfl (by omega) (fun m => ?_) (fun m q z0 z1 ih => ?_)
          · simp (disch := omega) only [wY_piece_45, jl_0, jl_1, jl_2, jl_3, jl_4, jl_5, jl_6, jl_7, jl_8, jl_9, jl_12, jl_13, jl_16, jl_24, jl_25, jl_50, jl_168, jl_169, jl_624, jl_625, jl_1000, jI_add, jI_sub, jI_mul, jI_neg, jI_div, ie_mod, jI_leT, jI_leF, jI_ltT, jI_ltF, jI_eqT, jI_eqF, jI_cl, jI_inT, forall_eq, true_implies, false_implies, implies_true, not_true_eq_false, not_false_eq_true, true_and, and_true, b2_0, b2_z]
            exact ⟨rfl, rl_mk hR⟩
          · obtain ⟨f1, f2, f3⟩ := lp_r hYF.1 q z0 z1
            rw [cn_s2 _ z0] at ih
            by_cases w1 : lb q = lb (50 * x + 2 * y)
            · rw [decide_eq_true w1, Bool.true_and] at ih
              by_cases w2 : q / 25 % 2 = 1
              · by_cases w3 : q % 25 % 2 = 1
                · rw [decide_eq_true ⟨w2, w3⟩] at ih
                  simp (disch := omega) only [wY_piece_45, jl_0, jl_1, jl_2, jl_3, jl_4, jl_5, jl_6, jl_7, jl_8, jl_9, jl_12, jl_13, jl_16, jl_24, jl_25, jl_50, jl_168, jl_169, jl_624, jl_625, jl_1000, jI_add, jI_sub, jI_mul, jI_neg, jI_div, ie_mod, jI_leT, jI_leF, jI_ltT, jI_ltF, jI_eqT, jI_eqF, jI_cl, jI_inT, forall_eq, true_implies, false_implies, implies_true, not_true_eq_false, not_false_eq_true, true_and, and_true, b2_0, b2_z, f1, m1]
                  exact ih
                · rw [decide_eq_false (fun z => w3 z.2), show o1 false = 0 from rfl, Int.add_zero] at ih
                  simp (disch := omega) only [wY_piece_45, jl_0, jl_1, jl_2, jl_3, jl_4, jl_5, jl_6, jl_7, jl_8, jl_9, jl_12, jl_13, jl_16, jl_24, jl_25, jl_50, jl_168, jl_169, jl_624, jl_625, jl_1000, jI_add, jI_sub, jI_mul, jI_neg, jI_div, ie_mod, jI_leT, jI_leF, jI_ltT, jI_ltF, jI_eqT, jI_eqF, jI_cl, jI_inT, forall_eq, true_implies, false_implies, implies_true, not_true_eq_false, not_false_eq_true, true_and, and_true, b2_0, b2_z, f1, m1]
                  exact ih
              · rw [decide_eq_false (fun z => w2 z.1), show o1 false = 0 from rfl, Int.add_zero] at ih
                simp (disch := omega) only [wY_piece_45, jl_0, jl_1, jl_2, jl_3, jl_4, jl_5, jl_6, jl_7, jl_8, jl_9, jl_12, jl_13, jl_16, jl_24, jl_25, jl_50, jl_168, jl_169, jl_624, jl_625, jl_1000, jI_add, jI_sub, jI_mul, jI_neg, jI_div, ie_mod, jI_leT, jI_leF, jI_ltT, jI_ltF, jI_eqT, jI_eqF, jI_cl, jI_inT, forall_eq, true_implies, false_implies, implies_true, not_true_eq_false, not_false_eq_true, true_and, and_true, b2_0, b2_z, f1, m1]
                exact ih
            · rw [decide_eq_false w1, Bool.false_and, show o1 false = 0 from rfl, Int.add_zero] at ih
              simp (disch := omega) only [wY_piece_45, jl_0, jl_1, jl_2, jl_3, jl_4, jl_5, jl_6, jl_7, jl_8, jl_9, jl_12, jl_13, jl_16, jl_24, jl_25, jl_50, jl_168, jl_169, jl_624, jl_625, jl_1000, jI_add, jI_sub, jI_mul, jI_neg, jI_div, ie_mod, jI_leT, jI_leF, jI_ltT, jI_ltF, jI_eqT, jI_eqF, jI_cl, jI_inT, forall_eq, true_implies, false_implies, implies_true, not_true_eq_false, not_false_eq_true, true_and, and_true, b2_0, b2_z, f1, m1]
              exact ih
        · obtain ⟨_, g2⟩ := hA q (by omega) (by omega)
          have hR1 := hTB.1 q (by omega) (by omega)
          have ho := tb_o hTB (show 0 ≤ q by omega) z1 q1.2
          have hj := s4 q (by omega) (by omega)
          have hgq : G q < 2 * x := by omega
          have hgp := hR1.1
          have hgp2 := hR1.2.1
          simp (disch := omega) only [wX_piece_51, jl_0, jl_1, jl_2, jl_3, jl_4, jl_5, jl_6, jl_7, jl_8, jl_9, jl_12, jl_13, jl_16, jl_24, jl_25, jl_50, jl_168, jl_169, jl_624, jl_625, jl_1000, jI_add, jI_sub, jI_mul, jI_neg, jI_div, ie_mod, jI_leT, jI_leF, jI_ltT, jI_ltF, jI_eqT, jI_eqF, jI_cl, jI_inT, forall_eq, true_implies, false_implies, implies_true, not_true_eq_false, not_false_eq_true, true_and, and_true, b2_0, b2_z, g2]
          exact ih
    · simp (disch := omega) only [wpX_piece, wpY_piece, xx_lay, yy_lay, xx_rngF, yy_rngF, jl_0, jl_1, jl_2, jl_3, jl_4, jl_5, jl_6, jl_7, jl_8, jl_9, jl_12, jl_13, jl_16, jl_24, jl_25, jl_50, jl_168, jl_169, jl_624, jl_625, jl_1000, jI_add, jI_sub, jI_mul, jI_neg, jI_div, ie_mod, jI_leT, jI_leF, jI_ltT, jI_ltF, jI_eqT, jI_eqF, jI_cl, jI_inT, forall_eq, true_implies, false_implies, implies_true, not_true_eq_false, not_false_eq_true, true_and, and_true, b2_0, b2_z]
      exact rl_mk hR
  · simp (disch := omega) only [wpX_piece, wpY_piece, xx_layF, yy_layF, jl_0, jl_1, jl_2, jl_3, jl_4, jl_5, jl_6, jl_7, jl_8, jl_9, jl_12, jl_13, jl_16, jl_24, jl_25, jl_50, jl_168, jl_169, jl_624, jl_625, jl_1000, jI_add, jI_sub, jI_mul, jI_neg, jI_div, ie_mod, jI_leT, jI_leF, jI_ltT, jI_ltF, jI_eqT, jI_eqF, jI_cl, jI_inT, forall_eq, true_implies, false_implies, implies_true, not_true_eq_false, not_false_eq_true, true_and, and_true, b2_0, b2_z]
    exact rl_mk hR
end
section
/-! ===== rings: one step ===== -/
def vx (D : Int) : Int := if D = 0 then 1 else if D = 2 then -1 else 0
def vy (D : Int) : Int := if D = 1 then 1 else if D = 3 then -1 else 0
def dr (A : Int → Int → Bool) (i j : Int) : Int :=
  if (i + j) % 2 = 1 ∧ pt A i j = 1 then (if i % 2 = 1 then (if A i (j + 1) = true then 1 else 3) else (if A (i - 1) j = true then 2 else 4)) else 0
def ED (A : Int → Int → Bool) (i j D : Int) : Prop :=
  (0 ≤ D ∧ D ≤ 3) ∧ (D % 2 = 0 → i % 2 = 1 ∧ j % 2 = 0) ∧ (D % 2 = 1 → i % 2 = 0 ∧ j % 2 = 1) ∧ A (i - vy D) (j + vx D) = true ∧ A (i + vy D) (j - vx D) = false
def qc (A : Int → Int → Bool) (p q D : Int) : Bool := A (p + vx D - vy D) (q + vy D + vx D)
theorem d4 {D : Int} (h : 0 ≤ D ∧ D ≤ 3) : D = 0 ∨ D = 1 ∨ D = 2 ∨ D = 3 := by omega
theorem qc_r (A : Int → Int → Bool) (p q : Int) {D : Int} (h : 0 ≤ D ∧ D ≤ 3) : A (p + vx D + vy D) (q + vy D - vx D) = qc A p q ((D + 3) % 4) := by
  rcases d4 h with rfl | rfl | rfl | rfl
  · show A (p + 1 + 0) (q + 0 - 1) = A (p + 0 - -1) (q + -1 + 0); congr 1 <;> omega
  · show A (p + 0 + 1) (q + 1 - 0) = A (p + 1 - 0) (q + 0 + 1); congr 1 <;> omega
  · show A (p + -1 + 0) (q + 0 - -1) = A (p + 0 - 1) (q + 1 + 0); congr 1 <;> omega
  · show A (p + 0 + -1) (q + -1 - 0) = A (p + -1 - 0) (q + 0 + -1); congr 1 <;> omega
theorem qc_l (A : Int → Int → Bool) (i j : Int) {D : Int} (h : 0 ≤ D ∧ D ≤ 3) : A (i - vy D) (j + vx D) = qc A (i + vx D) (j + vy D) ((D + 1) % 4) := by
  rcases d4 h with rfl | rfl | rfl | rfl
  · show A (i - 0) (j + 1) = A (i + 1 + 0 - 1) (j + 0 + 1 + 0); congr 1 <;> omega
  · show A (i - 1) (j + 0) = A (i + 0 + -1 - 0) (j + 1 + 0 + -1); congr 1 <;> omega
  · show A (i - 0) (j + -1) = A (i + -1 + 0 - -1) (j + 0 + -1 + 0); congr 1 <;> omega
  · show A (i - -1) (j + 0) = A (i + 0 + 1 - 0) (j + -1 + 0 + 1); congr 1 <;> omega
theorem qc_m (A : Int → Int → Bool) (i j : Int) {D : Int} (h : 0 ≤ D ∧ D ≤ 3) : A (i + vy D) (j - vx D) = qc A (i + vx D) (j + vy D) ((D + 2) % 4) := by
  rcases d4 h with rfl | rfl | rfl | rfl
  · show A (i + 0) (j - 1) = A (i + 1 + -1 - 0) (j + 0 + 0 + -1); congr 1 <;> omega
  · show A (i + 1) (j - 0) = A (i + 0 + 0 - -1) (j + 1 + -1 + 0); congr 1 <;> omega
  · show A (i + 0) (j - -1) = A (i + -1 + 1 - 0) (j + 0 + 0 + 1); congr 1 <;> omega
  · show A (i + -1) (j - 0) = A (i + 0 + 0 - 1) (j + -1 + 1 + 0); congr 1 <;> omega
/-- an outgoing edge of the point (p, q) -/
theorem ed_out {A : Int → Int → Bool} {p q : Int} (hp : p % 2 = 0 ∧ q % 2 = 0) {e : Int} (h : 0 ≤ e ∧ e ≤ 3) : ED A (p + vx e) (q + vy e) e ↔ qc A p q e = true ∧ qc A p q ((e + 3) % 4) = false := by
  unfold ED
  rw [← qc_r A p q h]
  have e1 : A (p + vx e - vy e) (q + vy e + vx e) = qc A p q e := rfl
  rw [e1]
  constructor
  · intro z; exact z.2.2.2
  · intro z
    refine ⟨h, fun w => ?_, fun w => ?_, z⟩
    · rcases d4 h with rfl | rfl | rfl | rfl
      · show (p + 1) % 2 = 1 ∧ (q + 0) % 2 = 0; omega
      · omega
      · show (p + -1) % 2 = 1 ∧ (q + 0) % 2 = 0; omega
      · omega
    · rcases d4 h with rfl | rfl | rfl | rfl
      · omega
      · show (p + 0) % 2 = 0 ∧ (q + 1) % 2 = 1; omega
      · omega
      · show (p + 0) % 2 = 0 ∧ (q + -1) % 2 = 1; omega
theorem ed_in {A : Int → Int → Bool} {i j D : Int} (h : ED A i j D) : ((i + vx D) % 2 = 0 ∧ (j + vy D) % 2 = 0) ∧ qc A (i + vx D) (j + vy D) ((D + 1) % 4) = true ∧ qc A (i + vx D) (j + vy D) ((D + 2) % 4) = false := by
  obtain ⟨h0, h1, h2, h3, h4⟩ := h
  rw [qc_l A i j h0] at h3
  rw [qc_m A i j h0] at h4
  refine ⟨?_, h3, h4⟩
  rcases d4 h0 with rfl | rfl | rfl | rfl
  · have := h1 rfl; show (i + 1) % 2 = 0 ∧ (j + 0) % 2 = 0; omega
  · have := h2 rfl; show (i + 0) % 2 = 0 ∧ (j + 1) % 2 = 0; omega
  · have := h1 rfl; show (i + -1) % 2 = 0 ∧ (j + 0) % 2 = 0; omega
  · have := h2 rfl; show (i + 0) % 2 = 0 ∧ (j + -1) % 2 = 0; omega
def nd (A : Int → Int → Bool) (p q D : Int) : Int := if qc A p q D = false then (D + 1) % 4 else if qc A p q ((D + 3) % 4) = true then (D + 3) % 4 else D
theorem nd_r (A : Int → Int → Bool) (p q : Int) {D : Int} (h : 0 ≤ D ∧ D ≤ 3) : 0 ≤ nd A p q D ∧ nd A p q D ≤ 3 := by
  unfold nd
  repeat' split
  all_goals omega
theorem nd_ok {A : Int → Int → Bool} {p q D : Int} (h : 0 ≤ D ∧ D ≤ 3) (h1 : qc A p q ((D + 1) % 4) = true) (h2 : qc A p q ((D + 2) % 4) = false) : qc A p q (nd A p q D) = true ∧ qc A p q ((nd A p q D + 3) % 4) = false := by
  unfold nd
  by_cases z : qc A p q D = false
  · rw [if_pos z]
    refine ⟨h1, ?_⟩
    rw [show ((D + 1) % 4 + 3) % 4 = D by omega]; exact z
  · rw [if_neg z]
    by_cases z2 : qc A p q ((D + 3) % 4) = true
    · rw [if_pos z2]
      refine ⟨z2, ?_⟩
      rw [show ((D + 3) % 4 + 3) % 4 = (D + 2) % 4 by omega]; exact h2
    · rw [if_neg z2]
      refine ⟨?_, ?_⟩
      · cases e : qc A p q D with
        | true => rfl
        | false => exact absurd e z
      · cases e : qc A p q ((D + 3) % 4) with
        | false => rfl
        | true => exact absurd e z2
theorem nd_inj {A : Int → Int → Bool} {p q D E : Int} (h : 0 ≤ D ∧ D ≤ 3) (h' : 0 ≤ E ∧ E ≤ 3) (h1 : qc A p q ((D + 1) % 4) = true) (h2 : qc A p q ((D + 2) % 4) = false) (h1' : qc A p q ((E + 1) % 4) = true) (h2' : qc A p q ((E + 2) % 4) = false) (e : nd A p q D = nd A p q E) : D = E := by
  unfold nd at e
  revert h1 h2 h1' h2' e
  generalize h00 : qc A p q 0 = c0'
  generalize h01 : qc A p q 1 = c1'
  generalize h02 : qc A p q 2 = c2'
  generalize h03 : qc A p q 3 = c3'
  rcases d4 h with rfl | rfl | rfl | rfl <;> rcases d4 h' with rfl | rfl | rfl | rfl <;>
    simp (disch := omega) only [show ((0 : Int) + 1) % 4 = 1 from rfl, show ((0 : Int) + 2) % 4 = 2 from rfl, show ((0 : Int) + 3) % 4 = 3 from rfl, show ((1 : Int) + 1) % 4 = 2 from rfl, show ((1 : Int) + 2) % 4 = 3 from rfl, show ((1 : Int) + 3) % 4 = 0 from rfl, show ((2 : Int) + 1) % 4 = 3 from rfl, show ((2 : Int) + 2) % 4 = 0 from rfl, show ((2 : Int) + 3) % 4 = 1 from rfl, show ((3 : Int) + 1) % 4 = 0 from rfl, show ((3 : Int) + 2) % 4 = 1 from rfl, show ((3 : Int) + 3) % 4 = 2 from rfl, h00, h01, h02, h03] <;>
    clear h00 h01 h02 h03 <;> revert c0' c1' c2' c3' <;> first | decide | (intros; trivial)
theorem dr_ed {A : Int → Int → Bool} (hC : Cl A) (hO : SO A) {i j D : Int} (h : ED A i j D) : dr A i j = D + 1 ∧ 0 ≤ i ∧ i < 25 ∧ 0 ≤ j ∧ j < 25 := by
  have hin : ∀ i j : Int, A i j = true → 0 ≤ i ∧ i < 25 ∧ 0 ≤ j ∧ j < 25 := fun i j hT => by
    apply Classical.byContradiction
    intro w
    rw [hO i j w] at hT
    cases hT
  obtain ⟨h0, h1, h2, h3, h4⟩ := h
  have ho1 : o1 true = 1 := rfl
  have ho0 : o1 false = 0 := rfl
  rcases d4 h0 with rfl | rfl | rfl | rfl
  · have hp := h1 rfl
    have h3' : A i (j + 1) = true := by rw [show A i (j + 1) = A (i - vy 0) (j + vx 0) from by show _ = A (i - 0) (j + 1); rw [show i - 0 = i by omega]]; exact h3
    have h4' : A i (j - 1) = false := by rw [show A i (j - 1) = A (i + vy 0) (j - vx 0) from by show _ = A (i + 0) (j - 1); rw [show i + 0 = i by omega]]; exact h4
    have g := hin _ _ h3'
    have hA := ((hC _ _ h3').2 (by omega)).1
    rw [show j + 1 - 1 = j by omega] at hA
    have gA := hin _ _ hA
    have hpt : pt A i j = 1 := by
      unfold pt ca
      rw [hA, if_neg (by decide), if_neg (by omega), if_pos (by omega), if_pos hp.1, h3', h4']
      rfl
    refine ⟨?_, gA⟩
    unfold dr
    rw [if_pos ⟨by omega, hpt⟩, if_pos hp.1, if_pos h3']
    rfl
  · have hp := h2 rfl
    have h3' : A (i - 1) j = true := by rw [show A (i - 1) j = A (i - vy 1) (j + vx 1) from by show _ = A (i - 1) (j + 0); rw [show j + 0 = j by omega]]; exact h3
    have h4' : A (i + 1) j = false := by rw [show A (i + 1) j = A (i + vy 1) (j - vx 1) from by show _ = A (i + 1) (j - 0); rw [show j - 0 = j by omega]]; exact h4
    have hA := ((hC _ _ h3').1 (by omega)).2
    rw [show i - 1 + 1 = i by omega] at hA
    have gA := hin _ _ hA
    have hpt : pt A i j = 1 := by
      have hca : ca A i j = 1 := by
        unfold ca
        rw [if_neg (by omega), if_pos hp.2, h3', h4']
        rfl
      unfold pt
      rw [hA, if_neg (by decide), if_neg (by omega), if_pos (by omega), if_pos hca]
    refine ⟨?_, gA⟩
    unfold dr
    rw [if_pos ⟨by omega, hpt⟩, if_neg (by omega), if_pos h3']
    rfl
  · have hp := h1 rfl
    have h3' : A i (j - 1) = true := by rw [show A i (j - 1) = A (i - vy 2) (j + vx 2) from by show _ = A (i - 0) (j + -1); rw [show i - 0 = i by omega, show j + -1 = j - 1 by omega]]; exact h3
    have h4' : A i (j + 1) = false := by rw [show A i (j + 1) = A (i + vy 2) (j - vx 2) from by show _ = A (i + 0) (j - -1); rw [show i + 0 = i by omega, show j - -1 = j + 1 by omega]]; exact h4
    have hA := ((hC _ _ h3').2 (by omega)).2
    rw [show j - 1 + 1 = j by omega] at hA
    have gA := hin _ _ hA
    have hpt : pt A i j = 1 := by
      unfold pt ca
      rw [hA, if_neg (by decide), if_neg (by omega), if_pos (by omega), if_pos hp.1, h3', h4']
      rfl
    refine ⟨?_, gA⟩
    unfold dr
    rw [if_pos ⟨by omega, hpt⟩, if_pos hp.1, if_neg (by rw [h4']; decide)]
    rfl
  · have hp := h2 rfl
    have h3' : A (i + 1) j = true := by rw [show A (i + 1) j = A (i - vy 3) (j + vx 3) from by show _ = A (i - -1) (j + 0); rw [show j + 0 = j by omega, show i - -1 = i + 1 by omega]]; exact h3
    have h4' : A (i - 1) j = false := by rw [show A (i - 1) j = A (i + vy 3) (j - vx 3) from by show _ = A (i + -1) (j - 0); rw [show j - 0 = j by omega, show i + -1 = i - 1 by omega]]; exact h4
    have hA := ((hC _ _ h3').1 (by omega)).1
    rw [show i + 1 - 1 = i by omega] at hA
    have gA := hin _ _ hA
    have hpt : pt A i j = 1 := by
      have hca : ca A i j = 1 := by
        unfold ca
        rw [if_neg (by omega), if_pos hp.2, h3', h4']
        rfl
      unfold pt
      rw [hA, if_neg (by decide), if_neg (by omega), if_pos (by omega), if_pos hca]
    refine ⟨?_, gA⟩
    unfold dr
    rw [if_pos ⟨by omega, hpt⟩, if_neg (by omega), if_neg (by rw [h4']; decide)]
    rfl
theorem ed_dr {A : Int → Int → Bool} {i j : Int} (h : dr A i j ≠ 0) : ED A i j (dr A i j - 1) := by
  have hc : (i + j) % 2 = 1 ∧ pt A i j = 1 := by
    apply Classical.byContradiction
    intro w
    exact h (if_neg w)
  have hd : dr A i j = if i % 2 = 1 then (if A i (j + 1) = true then 1 else 3) else (if A (i - 1) j = true then 2 else 4) := if_pos hc
  have hca : ca A i j = 1 := by
    have := hc.2
    unfold pt at this
    by_cases w : A i j = false
    · rw [if_pos w] at this; omega
    · rw [if_neg w, if_neg (by omega), if_pos (by omega)] at this
      apply Classical.byContradiction
      intro z
      rw [if_neg z] at this
      omega
  rw [hd]
  by_cases hi : i % 2 = 1
  · rw [if_pos hi]
    unfold ca at hca
    rw [if_pos hi] at hca
    by_cases hA : A i (j + 1) = true
    · rw [if_pos hA]
      have hB : A i (j - 1) = false := by
        cases e : A i (j - 1) with
        | false => rfl
        | true => rw [e, hA] at hca; simp [o1] at hca
      refine ⟨by omega, fun _ => by omega, fun w => by omega, ?_, ?_⟩
      · show A (i - 0) (j + 1) = true; rw [show i - 0 = i by omega]; exact hA
      · show A (i + 0) (j - 1) = false; rw [show i + 0 = i by omega]; exact hB
    · rw [if_neg hA]
      have hA' : A i (j + 1) = false := by
        cases e : A i (j + 1) with
        | false => rfl
        | true => exact absurd e hA
      have hB : A i (j - 1) = true := by
        cases e : A i (j - 1) with
        | true => rfl
        | false => rw [e, hA'] at hca; simp [o1] at hca
      refine ⟨by omega, fun _ => by omega, fun w => by omega, ?_, ?_⟩
      · show A (i - 0) (j + -1) = true; rw [show i - 0 = i by omega, show j + -1 = j - 1 by omega]; exact hB
      · show A (i + 0) (j - -1) = false; rw [show i + 0 = i by omega, show j - -1 = j + 1 by omega]; exact hA'
  · rw [if_neg hi]
    unfold ca at hca
    rw [if_neg hi, if_pos (by omega)] at hca
    by_cases hA : A (i - 1) j = true
    · rw [if_pos hA]
      have hB : A (i + 1) j = false := by
        cases e : A (i + 1) j with
        | false => rfl
        | true => rw [e, hA] at hca; simp [o1] at hca
      refine ⟨by omega, fun w => by omega, fun _ => by omega, ?_, ?_⟩
      · show A (i - 1) (j + 0) = true; rw [show j + 0 = j by omega]; exact hA
      · show A (i + 1) (j - 0) = false; rw [show j - 0 = j by omega]; exact hB
    · rw [if_neg hA]
      have hA' : A (i - 1) j = false := by
        cases e : A (i - 1) j with
        | false => rfl
        | true => exact absurd e hA
      have hB : A (i + 1) j = true := by
        cases e : A (i + 1) j with
        | true => rfl
        | false => rw [e, hA'] at hca; simp [o1] at hca
      refine ⟨by omega, fun w => by omega, fun _ => by omega, ?_, ?_⟩
      · show A (i - -1) (j + 0) = true; rw [show j + 0 = j by omega, show i - -1 = i + 1 by omega]; exact hB
      · show A (i + -1) (j - 0) = false; rw [show j - 0 = j by omega, show i + -1 = i - 1 by omega]; exact hA'
/-- the next edge, by its number -/
def nxp (A : Int → Int → Bool) (i j D : Int) : Int := 25 * (i + vx D + vx (nd A (i + vx D) (j + vy D) D)) + (j + vy D + vy (nd A (i + vx D) (j + vy D) D))
def nxe (A : Int → Int → Bool) (n : Int) : Int := nxp A (n / 25) (n % 25) (dr A (n / 25) (n % 25) - 1)
def Be (A : Int → Int → Bool) (n : Int) : Bool := decide ((0 ≤ n ∧ n < 625) ∧ dr A (n / 25) (n % 25) ≠ 0)
theorem nx_ed {A : Int → Int → Bool} {i j D : Int} (h : ED A i j D) : ED A (i + vx D + vx (nd A (i + vx D) (j + vy D) D)) (j + vy D + vy (nd A (i + vx D) (j + vy D) D)) (nd A (i + vx D) (j + vy D) D) := by
  have h1 := ed_in h
  exact (ed_out h1.1 (nd_r A _ _ h.1)).mpr (nd_ok h.1 h1.2.1 h1.2.2)
theorem be_nx {A : Int → Int → Bool} (hC : Cl A) (hO : SO A) {n : Int} (h : Be A n = true) : Be A (nxe A n) = true ∧ dr A (nxe A n / 25) (nxe A n % 25) = nd A (n / 25 + vx (dr A (n / 25) (n % 25) - 1)) (n % 25 + vy (dr A (n / 25) (n % 25) - 1)) (dr A (n / 25) (n % 25) - 1) + 1 ∧
    nxe A n / 25 = n / 25 + vx (dr A (n / 25) (n % 25) - 1) + vx (dr A (nxe A n / 25) (nxe A n % 25) - 1) ∧ nxe A n % 25 = n % 25 + vy (dr A (n / 25) (n % 25) - 1) + vy (dr A (nxe A n / 25) (nxe A n % 25) - 1) := by
  have hb := of_decide_eq_true h
  have h1 := ed_dr hb.2
  have h2 := nx_ed h1
  have h3 := dr_ed hC hO h2
  have key : ∀ P Q a b e : Int, a = P + vx e → b = Q + vy e → nxe A n = 25 * a + b → (dr A a b = e + 1 ∧ 0 ≤ a ∧ a < 25 ∧ 0 ≤ b ∧ b < 25) → 0 ≤ e → Be A (nxe A n) = true ∧ dr A (nxe A n / 25) (nxe A n % 25) = e + 1 ∧
      nxe A n / 25 = P + vx (dr A (nxe A n / 25) (nxe A n % 25) - 1) ∧ nxe A n % 25 = Q + vy (dr A (nxe A n / 25) (nxe A n % 25) - 1) := by
    intro P Q a b e ha hb hn hd he
    have e1 : nxe A n / 25 = a := by omega
    have e2 : nxe A n % 25 = b := by omega
    rw [e1, e2, hd.1, show e + 1 - 1 = e by omega]
    refine ⟨decide_eq_true ⟨by omega, ?_⟩, rfl, ha, hb⟩
    rw [e1, e2, hd.1]
    omega
  exact key _ _ _ _ _ rfl rfl rfl h3 (nd_r A _ _ h1.1).1
theorem nxe_inj {A : Int → Int → Bool} (hC : Cl A) (hO : SO A) {n m : Int} (h : Be A n = true) (h' : Be A m = true) (e : nxe A n = nxe A m) : n = m := by
  obtain ⟨b1, b2, b3, b4⟩ := be_nx hC hO h
  obtain ⟨c1, c2, c3, c4⟩ := be_nx hC hO h'
  have hb := of_decide_eq_true h
  have hb' := of_decide_eq_true h'
  have d1 := ed_dr hb.2
  have d1' := ed_dr hb'.2
  rw [e] at b2 b3 b4
  have ep : n / 25 + vx (dr A (n / 25) (n % 25) - 1) = m / 25 + vx (dr A (m / 25) (m % 25) - 1) := by omega
  have eq : n % 25 + vy (dr A (n / 25) (n % 25) - 1) = m % 25 + vy (dr A (m / 25) (m % 25) - 1) := by omega
  have hi := ed_in d1
  have hi' := ed_in d1'
  rw [ep, eq] at hi b2
  have hn : nd A (m / 25 + vx (dr A (m / 25) (m % 25) - 1)) (m % 25 + vy (dr A (m / 25) (m % 25) - 1)) (dr A (n / 25) (n % 25) - 1) = nd A (m / 25 + vx (dr A (m / 25) (m % 25) - 1)) (m % 25 + vy (dr A (m / 25) (m % 25) - 1)) (dr A (m / 25) (m % 25) - 1) := by omega
  have hD := nd_inj d1.1 d1'.1 hi.2.1 hi.2.2 hi'.2.1 hi'.2.2 hn
  rw [hD] at ep eq
  omega
section
variable {cy : Int32} {lys fil mad st px py lab : Nat → Int32}
variable {post : Int32 → Prop}
theorem dr_r (A : Int → Int → Bool) (i j : Int) : 0 ≤ dr A i j ∧ dr A i j ≤ 4 := by
  unfold dr
  repeat' split
  all_goals omega
theorem yy_dir {L : Int → Int → Int → Bool} (hY : RY L lys) (hO : RO L) {l i j : Int} (h : 0 ≤ l ∧ l < 6 ∧ 0 ≤ i ∧ i < 25 ∧ 0 ≤ j ∧ j < 25) : wpY_direction post (cy, lys, fil, mad, st, px, py, lab) (jI l) (jI i) (jI j) = post (jI (dr (L l) i j)) := by
  have hp := pt_r (L l) i j
  by_cases h1 : (i + j) % 2 = 1
  · by_cases h2 : pt (L l) i j = 1
    · by_cases h3 : i % 2 = 1
      · simp (disch := omega) only [wpY_direction, jl_0, jl_1, jl_2, jl_3, jl_4, jl_5, jl_6, jl_7, jl_8, jl_9, jl_12, jl_13, jl_16, jl_24, jl_25, jl_50, jl_168, jl_169, jl_624, jl_625, jl_1000, jI_add, jI_sub, jI_mul, jI_neg, jI_div, ie_mod, jI_leT, jI_leF, jI_ltT, jI_ltF, jI_eqT, jI_eqF, jI_cl, jI_inT, forall_eq, true_implies, false_implies, implies_true, not_true_eq_false, not_false_eq_true, true_and, and_true, b2_0, b2_z, yy_pt hY hO, yy_in hY hO, dr, if_pos]
        cases L l i (j + 1)
        · simp only [true_implies, not_true_eq_false, false_implies, and_true, if_neg, reduceCtorEq, if_false]
        · simp only [reduceCtorEq, false_implies, not_false_eq_true, true_implies, true_and, if_true]
      · simp (disch := omega) only [wpY_direction, jl_0, jl_1, jl_2, jl_3, jl_4, jl_5, jl_6, jl_7, jl_8, jl_9, jl_12, jl_13, jl_16, jl_24, jl_25, jl_50, jl_168, jl_169, jl_624, jl_625, jl_1000, jI_add, jI_sub, jI_mul, jI_neg, jI_div, ie_mod, jI_leT, jI_leF, jI_ltT, jI_ltF, jI_eqT, jI_eqF, jI_cl, jI_inT, forall_eq, true_implies, false_implies, implies_true, not_true_eq_false, not_false_eq_true, true_and, and_true, b2_0, b2_z, yy_pt hY hO, yy_in hY hO, dr, if_pos, if_neg]
        cases L l (i - 1) j
        · simp only [true_implies, not_true_eq_false, false_implies, and_true, if_neg, reduceCtorEq, if_false]
        · simp only [reduceCtorEq, false_implies, not_false_eq_true, true_implies, true_and, if_true]
    · simp (disch := omega) only [wpY_direction, jl_0, jl_1, jl_2, jl_3, jl_4, jl_5, jl_6, jl_7, jl_8, jl_9, jl_12, jl_13, jl_16, jl_24, jl_25, jl_50, jl_168, jl_169, jl_624, jl_625, jl_1000, jI_add, jI_sub, jI_mul, jI_neg, jI_div, ie_mod, jI_leT, jI_leF, jI_ltT, jI_ltF, jI_eqT, jI_eqF, jI_cl, jI_inT, forall_eq, true_implies, false_implies, implies_true, not_true_eq_false, not_false_eq_true, true_and, and_true, b2_0, b2_z, yy_pt hY hO, dr, if_neg]
  · simp (disch := omega) only [wpY_direction, jl_0, jl_1, jl_2, jl_3, jl_4, jl_5, jl_6, jl_7, jl_8, jl_9, jl_12, jl_13, jl_16, jl_24, jl_25, jl_50, jl_168, jl_169, jl_624, jl_625, jl_1000, jI_add, jI_sub, jI_mul, jI_neg, jI_div, ie_mod, jI_leT, jI_leF, jI_ltT, jI_ltF, jI_eqT, jI_eqF, jI_cl, jI_inT, forall_eq, true_implies, false_implies, implies_true, not_true_eq_false, not_false_eq_true, true_and, and_true, b2_0, b2_z, dr, if_neg]
theorem yy_cel {i j d : Int} (h : 0 ≤ i ∧ i < 25 ∧ 0 ≤ j ∧ j < 25 ∧ 0 ≤ d ∧ d ≤ 4) : wpY_cellLeft post (cy, lys, fil, mad, st, px, py, lab) (jI i) (jI j) (jI d) = post (jI (if d % 2 = 1 then 25 * i + j + 2 - d else 25 * (i + d - 3) + j)) := by
  by_cases h1 : d % 2 = 1
  · simp (disch := omega) only [wpY_cellLeft, jl_0, jl_1, jl_2, jl_3, jl_4, jl_5, jl_6, jl_7, jl_8, jl_9, jl_12, jl_13, jl_16, jl_24, jl_25, jl_50, jl_168, jl_169, jl_624, jl_625, jl_1000, jI_add, jI_sub, jI_mul, jI_neg, jI_div, ie_mod, jI_leT, jI_leF, jI_ltT, jI_ltF, jI_eqT, jI_eqF, jI_cl, jI_inT, forall_eq, true_implies, false_implies, implies_true, not_true_eq_false, not_false_eq_true, true_and, and_true, b2_0, b2_z, if_pos]
  · simp (disch := omega) only [wpY_cellLeft, jl_0, jl_1, jl_2, jl_3, jl_4, jl_5, jl_6, jl_7, jl_8, jl_9, jl_12, jl_13, jl_16, jl_24, jl_25, jl_50, jl_168, jl_169, jl_624, jl_625, jl_1000, jI_add, jI_sub, jI_mul, jI_neg, jI_div, ie_mod, jI_leT, jI_leF, jI_ltT, jI_ltF, jI_eqT, jI_eqF, jI_cl, jI_inT, forall_eq, true_implies, false_implies, implies_true, not_true_eq_false, not_false_eq_true, true_and, and_true, b2_0, b2_z, if_neg]
end
end
section
/-! ===== the reference's following edge ===== -/
def fk (g : Int → Bool) (es : Int) : Nat → Int
  | 0 => 0
  | k + 1 => if g ((k : Int) + 1) = true ∧ (fk g es k = 0 ∨ (k : Int) + 1 = es) then (k : Int) + 1 else fk g es k
theorem fk_s (g : Int → Bool) (es : Int) {e : Int} (h : 1 ≤ e) : fk g es (e + 1 - 1).toNat = if g e = true ∧ (fk g es (e - 1).toNat = 0 ∨ e = es) then e else fk g es (e - 1).toNat := by
  rw [show (e + 1 - 1).toNat = (e - 1).toNat + 1 by omega]
  show (if g (((e - 1).toNat : Int) + 1) = true ∧ (fk g es (e - 1).toNat = 0 ∨ ((e - 1).toNat : Int) + 1 = es) then ((e - 1).toNat : Int) + 1 else fk g es (e - 1).toNat) = _
  rw [show ((e - 1).toNat : Int) + 1 = e by omega]
theorem fk_r (g : Int → Bool) (es : Int) : ∀ k : Nat, 0 ≤ fk g es k ∧ fk g es k ≤ k ∧ (fk g es k = 0 ∨ g (fk g es k) = true) := by
  intro k
  induction k with
  | zero => exact ⟨Int.le_refl _, Int.le_refl _, Or.inl rfl⟩
  | succ k ih =>
    show 0 ≤ (if g ((k : Int) + 1) = true ∧ (fk g es k = 0 ∨ (k : Int) + 1 = es) then (k : Int) + 1 else fk g es k) ∧ _ ≤ _ ∧ _
    by_cases w : g ((k : Int) + 1) = true ∧ (fk g es k = 0 ∨ (k : Int) + 1 = es)
    · have e : fk g es (k + 1) = (k : Int) + 1 := if_pos w
      rw [e, if_pos w]
      exact ⟨by omega, by omega, Or.inr w.1⟩
    · have e : fk g es (k + 1) = fk g es k := if_neg w
      rw [e, if_neg w]
      exact ⟨ih.1, by omega, ih.2.2⟩
theorem fk_nd {A : Int → Int → Bool} {p q D : Int} (h : 0 ≤ D ∧ D ≤ 3) (h1 : qc A p q ((D + 1) % 4) = true) (h2 : qc A p q ((D + 2) % 4) = false) :
    fk (fun e => qc A p q (e - 1) && !qc A p q ((e + 2) % 4)) ((D + 1) % 4 + 1) 4 = nd A p q D + 1 := by
  have u : ∀ (g : Int → Bool) (es : Int), fk g es 4 = (if g 4 = true ∧ ((if g 3 = true ∧ ((if g 2 = true ∧ ((if g 1 = true then 1 else 0) = (0 : Int) ∨ (2 : Int) = es) then 2 else (if g 1 = true then 1 else 0)) = (0 : Int) ∨ (3 : Int) = es) then 3 else (if g 2 = true ∧ ((if g 1 = true then 1 else 0) = (0 : Int) ∨ (2 : Int) = es) then 2 else (if g 1 = true then 1 else 0))) = (0 : Int) ∨ (4 : Int) = es) then 4 else (if g 3 = true ∧ ((if g 2 = true ∧ ((if g 1 = true then 1 else 0) = (0 : Int) ∨ (2 : Int) = es) then 2 else (if g 1 = true then 1 else 0)) = (0 : Int) ∨ (3 : Int) = es) then 3 else (if g 2 = true ∧ ((if g 1 = true then 1 else 0) = (0 : Int) ∨ (2 : Int) = es) then 2 else (if g 1 = true then 1 else 0)))) := by
    intro g es
    have a1 : fk g es 1 = if g 1 = true then 1 else 0 := by
      show (if g ((0 : Int) + 1) = true ∧ ((0 : Int) = 0 ∨ (0 : Int) + 1 = es) then (0 : Int) + 1 else 0) = _
      simp
    have a2 : fk g es 2 = if g 2 = true ∧ (fk g es 1 = 0 ∨ (2 : Int) = es) then 2 else fk g es 1 := rfl
    have a3 : fk g es 3 = if g 3 = true ∧ (fk g es 2 = 0 ∨ (3 : Int) = es) then 3 else fk g es 2 := rfl
    have a4 : fk g es 4 = if g 4 = true ∧ (fk g es 3 = 0 ∨ (4 : Int) = es) then 4 else fk g es 3 := rfl
    rw [a4, a3, a2, a1]
  rw [u]
  unfold nd
  revert h1 h2
  simp only [show (1 : Int) - 1 = 0 from rfl, show (2 : Int) - 1 = 1 from rfl, show (3 : Int) - 1 = 2 from rfl, show (4 : Int) - 1 = 3 from rfl, show ((1 : Int) + 2) % 4 = 3 from rfl, show ((2 : Int) + 2) % 4 = 0 from rfl, show ((3 : Int) + 2) % 4 = 1 from rfl, show ((4 : Int) + 2) % 4 = 2 from rfl]
  rcases d4 h with rfl | rfl | rfl | rfl <;>
    simp only [show ((0 : Int) + 1) % 4 = 1 from rfl, show ((0 : Int) + 2) % 4 = 2 from rfl, show ((0 : Int) + 3) % 4 = 3 from rfl, show ((1 : Int) + 1) % 4 = 2 from rfl, show ((1 : Int) + 2) % 4 = 3 from rfl, show ((1 : Int) + 3) % 4 = 0 from rfl, show ((2 : Int) + 1) % 4 = 3 from rfl, show ((2 : Int) + 2) % 4 = 0 from rfl, show ((2 : Int) + 3) % 4 = 1 from rfl, show ((3 : Int) + 1) % 4 = 0 from rfl, show ((3 : Int) + 2) % 4 = 1 from rfl, show ((3 : Int) + 3) % 4 = 2 from rfl] <;>
    generalize qc A p q 0 = c0' <;> generalize qc A p q 1 = c1' <;> generalize qc A p q 2 = c2' <;> generalize qc A p q 3 = c3' <;>
    revert c0' c1' c2' c3' <;> decide
section
variable {cy : Int32} {lys fil mad st px py lab : Nat → Int32}
variable {post : Int32 → Prop}
theorem yy_fol {L : Int → Int → Int → Bool} (hY : RY L lys) (hO : RO L) {l : Int} (hC : Cl (L l)) (hl : 0 ≤ l ∧ l < 6) {n : Int} (h : Be (L l) n = true) (hp : post (jI (nxe (L l) n))) : wpY_following post (cy, lys, fil, mad, st, px, py, lab) (jI l) (jI n) := by
  have hb := of_decide_eq_true h
  have h1 := ed_dr hb.2
  have hi := ed_in h1
  have hi0 : 0 ≤ n / 25 ∧ n / 25 < 25 ∧ 0 ≤ n % 25 ∧ n % 25 < 25 := by omega
  have hd := dr_r (L l) (n / 25) (n % 25)
  have hn : nxe (L l) n = nxp (L l) (n / 25) (n % 25) (dr (L l) (n / 25) (n % 25) - 1) := rfl
  rw [hn] at hp
  simp (disch := omega) only [wpY_following, jl_0, jl_1, jl_2, jl_3, jl_4, jl_5, jl_6, jl_7, jl_8, jl_9, jl_12, jl_13, jl_16, jl_24, jl_25, jl_50, jl_168, jl_169, jl_624, jl_625, jl_1000, jI_add, jI_sub, jI_mul, jI_neg, jI_div, ie_mod, jI_leT, jI_leF, jI_ltT, jI_ltF, jI_eqT, jI_eqF, jI_cl, jI_inT, forall_eq, true_implies, false_implies, implies_true, not_true_eq_false, not_false_eq_true, true_and, and_true, b2_0, b2_z, yy_dir hY hO, yy_cel]
  generalize n / 25 = i at *
  generalize n % 25 = j at *
  generalize hDd : dr (L l) i j = dd at *
  obtain ⟨D, rfl⟩ : ∃ D, dd = D + 1 := ⟨dd - 1, by omega⟩
  rw [show D + 1 - 1 = D by omega] at *
  have hD := h1.1
  unfold nxp at hp
  have hpr : -1 ≤ i + vx D ∧ i + vx D ≤ 25 ∧ -1 ≤ j + vy D ∧ j + vy D ≤ 25 := by
    rcases d4 hD with rfl | rfl | rfl | rfl
    · show -1 ≤ i + 1 ∧ i + 1 ≤ 25 ∧ -1 ≤ j + 0 ∧ j + 0 ≤ 25; omega
    · show -1 ≤ i + 0 ∧ i + 0 ≤ 25 ∧ -1 ≤ j + 1 ∧ j + 1 ≤ 25; omega
    · show -1 ≤ i + -1 ∧ i + -1 ≤ 25 ∧ -1 ≤ j + 0 ∧ j + 0 ≤ 25; omega
    · show -1 ≤ i + 0 ∧ i + 0 ≤ 25 ∧ -1 ≤ j + -1 ∧ j + -1 ≤ 25; omega
  have main : ∀ p q : Int, p = i + vx D → q = j + vy D → ∃ n95, wY_following_95 post (jI l) (jI (25 * (i - vy D) + (j + vx D))) (jI p) (jI q) cy lys fil mad st px py lab n95 (jI (-1)) (jI 1) := by
    intro p q hpp hqq
    rw [← hpp, ← hqq] at hp hpr hi
    have hfk := fk_nd h1.1 hi.2.1 hi.2.2
    -- an outgoing edge
    have hout : ∀ e : Int, 1 ≤ e → e ≤ 4 → ((qc (L l) p q (e - 1) && !qc (L l) p q ((e + 2) % 4)) = true ↔ ((0 ≤ p + vx (e - 1) ∧ p + vx (e - 1) < 25 ∧ 0 ≤ q + vy (e - 1) ∧ q + vy (e - 1) < 25) ∧ dr (L l) (p + vx (e - 1)) (q + vy (e - 1)) = e)) := by
      intro e e0 e1
      have ho := ed_out (A := L l) hi.1 (e := e - 1) (by omega)
      rw [show (e - 1 + 3) % 4 = (e + 2) % 4 by omega] at ho
      rw [Bool.and_eq_true, Bool.not_eq_true', ← ho]
      constructor
      · intro w
        have := dr_ed hC (hO l) w
        exact ⟨this.2, by omega⟩
      · intro w
        have := ed_dr (A := L l) (i := p + vx (e - 1)) (j := q + vy (e - 1)) (by omega)
        rw [w.2] at this
        exact this
    refine lj_a (fun n95 e s => wY_following_95 post (jI l) (jI (25 * (i - vy D) + (j + vx D))) (jI p) (jI q) cy lys fil mad st px py lab n95 s (jI e)) (fun e => jI (if fk (fun e => qc (L l) p q (e - 1) && !qc (L l) p q ((e + 2) % 4)) ((D + 1) % 4 + 1) (e - 1).toNat = 0 then -1 else 25 * (p + vx (fk (fun e => qc (L l) p q (e - 1) && !qc (L l) p q ((e + 2) % 4)) ((D + 1) % 4 + 1) (e - 1).toNat - 1)) + (q + vy (fk (fun e => qc (L l) p q (e - 1) && !qc (L l) p q ((e + 2) % 4)) ((D + 1) % 4 + 1) (e - 1).toNat - 1)))) 1 5 rfl (by omega) (fun n95 => ?_) (fun n95 e e0 e1 ih => ?_)
    · have hnd := nd_r (L l) p q hD
      rw [show ((5 : Int) - 1).toNat = 4 from rfl, hfk, if_neg (by omega), show nd (L l) p q D + 1 - 1 = nd (L l) p q D by omega]
      simp (disch := omega) only [wY_following_95, jl_0, jl_1, jl_2, jl_3, jl_4, jl_5, jl_6, jl_7, jl_8, jl_9, jl_12, jl_13, jl_16, jl_24, jl_25, jl_50, jl_168, jl_169, jl_624, jl_625, jl_1000, jI_add, jI_sub, jI_mul, jI_neg, jI_div, ie_mod, jI_leT, jI_leF, jI_ltT, jI_ltF, jI_eqT, jI_eqF, jI_cl, jI_inT, forall_eq, true_implies, false_implies, implies_true, not_true_eq_false, not_false_eq_true, true_and, and_true, b2_0, b2_z]
      exact hp
    · rw [fk_s _ _ e0] at ih
      have hfr := fk_r (fun e => qc (L l) p q (e - 1) && !qc (L l) p q ((e + 2) % 4)) ((D + 1) % 4 + 1) (e - 1).toNat
      generalize fk (fun e => qc (L l) p q (e - 1) && !qc (L l) p q ((e + 2) % 4)) ((D + 1) % 4 + 1) (e - 1).toNat = f0 at *
      have hfr2 : f0 = 0 ∨ ((0 ≤ p + vx (f0 - 1) ∧ p + vx (f0 - 1) < 25 ∧ 0 ≤ q + vy (f0 - 1) ∧ q + vy (f0 - 1) < 25) ∧ 1 ≤ f0) := by
        rcases hfr.2.2 with w | w
        · exact Or.inl w
        · by_cases z : f0 = 0
          · exact Or.inl z
          · exact Or.inr ⟨((hout f0 (by omega) (by omega)).mp w).1, by omega⟩
      have hx7 : ∃ x7 : Int, x7 = (if f0 = 0 then -1 else 25 * (p + vx (f0 - 1)) + (q + vy (f0 - 1))) ∧ -1 ≤ x7 ∧ x7 < 1000 ∧ (x7 < 0 ↔ f0 = 0) := by
        refine ⟨_, rfl, ?_⟩
        by_cases z : f0 = 0
        · rw [if_pos z]; omega
        · rw [if_neg z]; omega
      obtain ⟨x7, ex7, r1, r2, r3⟩ := hx7
      rw [← ex7]
      have hou := hout e e0 (by omega)
      have go1 : (qc (L l) p q (e - 1) && !qc (L l) p q ((e + 2) % 4)) = true → (f0 = 0 ∨ e = (D + 1) % 4 + 1) → wY_following_95 post (jI l) (jI (25 * (i - vy D) + (j + vx D))) (jI p) (jI q) cy lys fil mad st px py lab n95 (jI (25 * (p + vx (e - 1)) + (q + vy (e - 1)))) (jI (e + 1)) := by
        intro g1 g2
        have hg : (qc (L l) p q (e - 1) && !qc (L l) p q ((e + 2) % 4)) = true ∧ (f0 = 0 ∨ e = (D + 1) % 4 + 1) := ⟨g1, g2⟩
        rw [if_pos hg, if_neg (show ¬ e = 0 by omega)] at ih
        exact ih
      have go2 : ¬ ((qc (L l) p q (e - 1) && !qc (L l) p q ((e + 2) % 4)) = true ∧ (f0 = 0 ∨ e = (D + 1) % 4 + 1)) → wY_following_95 post (jI l) (jI (25 * (i - vy D) + (j + vx D))) (jI p) (jI q) cy lys fil mad st px py lab n95 (jI x7) (jI (e + 1)) := by
        intro g
        rw [if_neg g, ← ex7] at ih
        exact ih
      have hcl : ∀ u v : Int, u = p + vx (e - 1) → v = q + vy (e - 1) → ((if e % 2 = 1 then 25 * u + v + 2 - e else 25 * (u + e - 3) + v) = 25 * (i - vy D) + (j + vx D) ↔ e = (D + 1) % 4 + 1) := by
        intro u v hu hv
        rw [hu, hv, hpp, hqq]
        have he4 : e = 1 ∨ e = 2 ∨ e = 3 ∨ e = 4 := by omega
        rcases d4 hD with rfl | rfl | rfl | rfl <;> rcases he4 with rfl | rfl | rfl | rfl <;> simp [vx, vy] <;> omega
      have s159 : ∀ u v : Int, u = p + vx (e - 1) → v = q + vy (e - 1) → -5 ≤ u → u ≤ 30 → -5 ≤ v → v ≤ 30 → wY_following_159 post (wY_following_95 post (jI l) (jI (25 * (i - vy D) + (j + vx D))) (jI p) (jI q) cy lys fil mad st px py lab n95) (jI l) (jI (25 * (i - vy D) + (j + vx D))) (jI x7) (jI p) (jI q) (jI e) (jI u) (jI v) cy lys fil mad st px py lab := by
        intro u v hu hv u1 u2 v1 v2
        have hcl' := hcl u v hu hv
        rw [← hu, ← hv] at hou go1
        by_cases w1 : 0 ≤ u ∧ u < 25 ∧ 0 ≤ v ∧ v < 25
        · have hdr := dr_r (L l) u v
          by_cases w2 : dr (L l) u v = e
          · have hq := hou.mpr ⟨w1, w2⟩
            by_cases w3 : x7 < 0
            · simp (disch := omega) only [wY_following_159, wY_following_206, jl_0, jl_1, jl_2, jl_3, jl_4, jl_5, jl_6, jl_7, jl_8, jl_9, jl_12, jl_13, jl_16, jl_24, jl_25, jl_50, jl_168, jl_169, jl_624, jl_625, jl_1000, jI_add, jI_sub, jI_mul, jI_neg, jI_div, ie_mod, jI_leT, jI_leF, jI_ltT, jI_ltF, jI_eqT, jI_eqF, jI_cl, jI_inT, forall_eq, true_implies, false_implies, implies_true, not_true_eq_false, not_false_eq_true, true_and, and_true, b2_0, b2_z, yy_at, yy_dir hY hO]
              exact go1 hq (Or.inl (r3.mp w3))
            · simp (disch := omega) only [wY_following_159, wY_following_206, jl_0, jl_1, jl_2, jl_3, jl_4, jl_5, jl_6, jl_7, jl_8, jl_9, jl_12, jl_13, jl_16, jl_24, jl_25, jl_50, jl_168, jl_169, jl_624, jl_625, jl_1000, jI_add, jI_sub, jI_mul, jI_neg, jI_div, ie_mod, jI_leT, jI_leF, jI_ltT, jI_ltF, jI_eqT, jI_eqF, jI_cl, jI_inT, forall_eq, true_implies, false_implies, implies_true, not_true_eq_false, not_false_eq_true, true_and, and_true, b2_0, b2_z, yy_at, yy_dir hY hO, yy_cel]
              by_cases w4 : e = (D + 1) % 4 + 1
              · refine br_t (congrArg jI (hcl'.mpr w4)) (go1 hq (Or.inr w4))
              · refine br_f (fun z => ?_) (go2 (fun z => ?_))
                · have hvv : -1 ≤ vx D ∧ vx D ≤ 1 ∧ -1 ≤ vy D ∧ vy D ≤ 1 := by
                    rcases d4 hD with rfl | rfl | rfl | rfl <;> decide
                  rw [jI_eq (by split <;> omega) (by split <;> omega) (by omega) (by omega)] at z
                  exact w4 (hcl'.mp z)
                · rcases z.2 with y | y
                  · exact w3 (r3.mpr y)
                  · exact w4 y
          · simp (disch := omega) only [wY_following_159, wY_following_206, jl_0, jl_1, jl_2, jl_3, jl_4, jl_5, jl_6, jl_7, jl_8, jl_9, jl_12, jl_13, jl_16, jl_24, jl_25, jl_50, jl_168, jl_169, jl_624, jl_625, jl_1000, jI_add, jI_sub, jI_mul, jI_neg, jI_div, ie_mod, jI_leT, jI_leF, jI_ltT, jI_ltF, jI_eqT, jI_eqF, jI_cl, jI_inT, forall_eq, true_implies, false_implies, implies_true, not_true_eq_false, not_false_eq_true, true_and, and_true, b2_0, b2_z, yy_at, yy_dir hY hO]
            exact go2 (fun z => w2 (hou.mp z.1).2)
        · simp (disch := omega) only [wY_following_159, jl_0, jl_1, jl_2, jl_3, jl_4, jl_5, jl_6, jl_7, jl_8, jl_9, jl_12, jl_13, jl_16, jl_24, jl_25, jl_50, jl_168, jl_169, jl_624, jl_625, jl_1000, jI_add, jI_sub, jI_mul, jI_neg, jI_div, ie_mod, jI_leT, jI_leF, jI_ltT, jI_ltF, jI_eqT, jI_eqF, jI_cl, jI_inT, forall_eq, true_implies, false_implies, implies_true, not_true_eq_false, not_false_eq_true, true_and, and_true, b2_0, b2_z, yy_atF]
          exact go2 (fun z => w1 (hou.mp z.1).1)
      have he4 : e = 1 ∨ e = 2 ∨ e = 3 ∨ e = 4 := by omega
      rcases he4 with z | z | z | z
      · simp (disch := omega) only [wY_following_95, wY_following_129, jl_0, jl_1, jl_2, jl_3, jl_4, jl_5, jl_6, jl_7, jl_8, jl_9, jl_12, jl_13, jl_16, jl_24, jl_25, jl_50, jl_168, jl_169, jl_624, jl_625, jl_1000, jI_add, jI_sub, jI_mul, jI_neg, jI_div, ie_mod, jI_leT, jI_leF, jI_ltT, jI_ltF, jI_eqT, jI_eqF, jI_cl, jI_inT, forall_eq, true_implies, false_implies, implies_true, not_true_eq_false, not_false_eq_true, true_and, and_true, b2_0, b2_z]
        exact s159 _ _ (by rw [z]; rfl) (by rw [z]; show q = q + 0; omega) (by omega) (by omega) (by omega) (by omega)
      · simp (disch := omega) only [wY_following_95, wY_following_129, jl_0, jl_1, jl_2, jl_3, jl_4, jl_5, jl_6, jl_7, jl_8, jl_9, jl_12, jl_13, jl_16, jl_24, jl_25, jl_50, jl_168, jl_169, jl_624, jl_625, jl_1000, jI_add, jI_sub, jI_mul, jI_neg, jI_div, ie_mod, jI_leT, jI_leF, jI_ltT, jI_ltF, jI_eqT, jI_eqF, jI_cl, jI_inT, forall_eq, true_implies, false_implies, implies_true, not_true_eq_false, not_false_eq_true, true_and, and_true, b2_0, b2_z]
        exact s159 _ _ (by rw [z]; show p = p + 0; omega) (by rw [z]; rfl) (by omega) (by omega) (by omega) (by omega)
      · simp (disch := omega) only [wY_following_95, wY_following_129, jl_0, jl_1, jl_2, jl_3, jl_4, jl_5, jl_6, jl_7, jl_8, jl_9, jl_12, jl_13, jl_16, jl_24, jl_25, jl_50, jl_168, jl_169, jl_624, jl_625, jl_1000, jI_add, jI_sub, jI_mul, jI_neg, jI_div, ie_mod, jI_leT, jI_leF, jI_ltT, jI_ltF, jI_eqT, jI_eqF, jI_cl, jI_inT, forall_eq, true_implies, false_implies, implies_true, not_true_eq_false, not_false_eq_true, true_and, and_true, b2_0, b2_z]
        exact s159 _ _ (by rw [z]; show p - 1 = p + -1; omega) (by rw [z]; show q = q + 0; omega) (by omega) (by omega) (by omega) (by omega)
      · simp (disch := omega) only [wY_following_95, wY_following_129, jl_0, jl_1, jl_2, jl_3, jl_4, jl_5, jl_6, jl_7, jl_8, jl_9, jl_12, jl_13, jl_16, jl_24, jl_25, jl_50, jl_168, jl_169, jl_624, jl_625, jl_1000, jI_add, jI_sub, jI_mul, jI_neg, jI_div, ie_mod, jI_leT, jI_leF, jI_ltT, jI_ltF, jI_eqT, jI_eqF, jI_cl, jI_inT, forall_eq, true_implies, false_implies, implies_true, not_true_eq_false, not_false_eq_true, true_and, and_true, b2_0, b2_z]
        exact s159 _ _ (by rw [z]; show p = p + 0; omega) (by rw [z]; show q - 1 = q + -1; omega) (by omega) (by omega) (by omega) (by omega)
  rcases d4 hD with rfl | rfl | rfl | rfl
  · have m := main (i + 1) j rfl (by show j = j + 0; omega)
    rw [show 25 * (i - vy 0) + (j + vx 0) = 25 * i + j + 2 - (0 + 1) from by show 25 * (i - 0) + (j + 1) = _; omega] at m
    simp (disch := omega) only [wY_following_60, jl_0, jl_1, jl_2, jl_3, jl_4, jl_5, jl_6, jl_7, jl_8, jl_9, jl_12, jl_13, jl_16, jl_24, jl_25, jl_50, jl_168, jl_169, jl_624, jl_625, jl_1000, jI_add, jI_sub, jI_mul, jI_neg, jI_div, ie_mod, jI_leT, jI_leF, jI_ltT, jI_ltF, jI_eqT, jI_eqF, jI_cl, jI_inT, forall_eq, true_implies, false_implies, implies_true, not_true_eq_false, not_false_eq_true, true_and, and_true, b2_0, b2_z, if_pos]
    exact m
  · have m := main i (j + 1) (by show i = i + 0; omega) rfl
    rw [show 25 * (i - vy 1) + (j + vx 1) = 25 * (i + (1 + 1) - 3) + j from by show 25 * (i - 1) + (j + 0) = _; omega] at m
    simp (disch := omega) only [wY_following_60, jl_0, jl_1, jl_2, jl_3, jl_4, jl_5, jl_6, jl_7, jl_8, jl_9, jl_12, jl_13, jl_16, jl_24, jl_25, jl_50, jl_168, jl_169, jl_624, jl_625, jl_1000, jI_add, jI_sub, jI_mul, jI_neg, jI_div, ie_mod, jI_leT, jI_leF, jI_ltT, jI_ltF, jI_eqT, jI_eqF, jI_cl, jI_inT, forall_eq, true_implies, false_implies, implies_true, not_true_eq_false, not_false_eq_true, true_and, and_true, b2_0, b2_z, if_neg]
    exact m
  · have m := main (i - 1) j (by show i - 1 = i + -1; omega) (by show j = j + 0; omega)
    rw [show 25 * (i - vy 2) + (j + vx 2) = 25 * i + j + 2 - (2 + 1) from by show 25 * (i - 0) + (j + -1) = _; omega] at m
    simp (disch := omega) only [wY_following_60, jl_0, jl_1, jl_2, jl_3, jl_4, jl_5, jl_6, jl_7, jl_8, jl_9, jl_12, jl_13, jl_16, jl_24, jl_25, jl_50, jl_168, jl_169, jl_624, jl_625, jl_1000, jI_add, jI_sub, jI_mul, jI_neg, jI_div, ie_mod, jI_leT, jI_leF, jI_ltT, jI_ltF, jI_eqT, jI_eqF, jI_cl, jI_inT, forall_eq, true_implies, false_implies, implies_true, not_true_eq_false, not_false_eq_true, true_and, and_true, b2_0, b2_z, if_pos]
    exact m
  · have m := main i (j - 1) (by show i = i + 0; omega) (by show j - 1 = j + -1; omega)
    rw [show 25 * (i - vy 3) + (j + vx 3) = 25 * (i + (3 + 1) - 3) + j from by show 25 * (i - -1) + (j + 0) = _; omega] at m
    simp (disch := omega) only [wY_following_60, jl_0, jl_1, jl_2, jl_3, jl_4, jl_5, jl_6, jl_7, jl_8, jl_9, jl_12, jl_13, jl_16, jl_24, jl_25, jl_50, jl_168, jl_169, jl_624, jl_625, jl_1000, jI_add, jI_sub, jI_mul, jI_neg, jI_div, ie_mod, jI_leT, jI_leF, jI_ltT, jI_ltF, jI_eqT, jI_eqF, jI_cl, jI_inT, forall_eq, true_implies, false_implies, implies_true, not_true_eq_false, not_false_eq_true, true_and, and_true, b2_0, b2_z, if_neg]
    exact m
end
end
section
/-! ===== orbits of an injection on a finite set ===== -/
def it (nx : Int → Int) : Nat → Int → Int
  | 0 => fun n => n
  | k + 1 => fun n => nx (it nx k n)
def OK (B : Int → Bool) (nx : Int → Int) : Prop := (∀ n, B n = true → 0 ≤ n ∧ n < 625) ∧ (∀ n, B n = true → B (nx n) = true) ∧ ∀ n m, B n = true → B m = true → nx n = nx m → n = m
def PER (nx : Int → Int) (n : Int) (k : Nat) : Prop := 0 < k ∧ it nx k n = n ∧ ∀ m : Nat, 0 < m → m < k → it nx m n ≠ n
def mn (nx : Int → Int) (n : Int) : Prop := ∀ k : Nat, n ≤ it nx k n
section
variable {B : Int → Bool} {nx : Int → Int}
theorem it_B (h : OK B nx) {n : Int} (hn : B n = true) : ∀ k : Nat, B (it nx k n) = true := by
  intro k
  induction k with
  | zero => exact hn
  | succ k ih => exact h.2.1 _ ih
theorem it_add (a : Nat) : ∀ (b : Nat) (n : Int), it nx (a + b) n = it nx a (it nx b n) := by
  intro b n
  induction a with
  | zero => rw [Nat.zero_add]; rfl
  | succ a ih =>
    rw [show a + 1 + b = (a + b) + 1 by omega]
    show nx (it nx (a + b) n) = nx (it nx a (it nx b n))
    rw [ih]
theorem it_inj (h : OK B nx) {n m : Int} (hn : B n = true) (hm : B m = true) : ∀ k : Nat, it nx k n = it nx k m → n = m := by
  intro k
  induction k with
  | zero => intro e; exact e
  | succ k ih => intro e; exact ih (h.2.2 _ _ (it_B h hn k) (it_B h hm k) e)
theorem lst_n {P : Nat → Prop} : ∀ k : Nat, P k → ∃ m : Nat, m ≤ k ∧ P m ∧ ∀ q : Nat, q < m → ¬ P q := by
  intro k
  induction k using Nat.strongRecOn with
  | ind k ih =>
    intro hk
    by_cases h : ∃ q, q < k ∧ P q
    · obtain ⟨q, hq, hp⟩ := h
      obtain ⟨m, m1, m2, m3⟩ := ih q hq hp
      exact ⟨m, by omega, m2, m3⟩
    · exact ⟨k, Nat.le_refl _, hk, fun q hq hp => h ⟨q, hq, hp⟩⟩
theorem cn_all : ∀ n : Nat, cn (fun _ => true) n = n := by
  intro n
  induction n with
  | zero => rfl
  | succ n ih => rw [cn_s, ih]; show (n : Int) + 1 = _; omega
theorem per_ex (h : OK B nx) {n : Int} (hn : B n = true) : ∃ k : Nat, PER nx n k := by
  have hret : ∃ k : Nat, 0 < k ∧ it nx k n = n := by
    apply Classical.byContradiction
    intro hno
    have hle := cn_inj (fun i => it nx i.toNat n) 625 626 (fun _ => true) (fun _ => true) (fun i _ _ _ => ⟨(h.1 _ (it_B h hn _)).1, (h.1 _ (it_B h hn _)).2, rfl⟩) (fun i k i0 i1 _ k0 k1 _ e => by
      have key : ∀ a b : Nat, a < b → it nx a n = it nx b n → False := by
        intro a b hab e
        rw [show b = a + (b - a) by omega, it_add] at e
        exact hno ⟨b - a, by omega, (it_inj h hn (it_B h hn _) a e).symm⟩
      rcases Nat.lt_trichotomy i.toNat k.toNat with w | w | w
      · exact (key _ _ w e).elim
      · omega
      · exact (key _ _ w e.symm).elim)
    rw [cn_all, cn_all] at hle
    omega
  obtain ⟨k, k0, k1⟩ := hret
  obtain ⟨m, m1, m2, m3⟩ := lst_n (P := fun k => 0 < k ∧ it nx k n = n) k ⟨k0, k1⟩
  exact ⟨m, m2.1, m2.2, fun q q0 q1 e => m3 q q1 ⟨q0, e⟩⟩
theorem per_u {n : Int} {k m : Nat} (h : PER nx n k) (h' : PER nx n m) : k = m := by
  rcases Nat.lt_trichotomy k m with w | w | w
  · exact absurd h.2.1 (h'.2.2 k h.1 w)
  · exact w
  · exact absurd h'.2.1 (h.2.2 m h'.1 w)
theorem per_it (h : OK B nx) {n : Int} (hn : B n = true) {k : Nat} (hp : PER nx n k) (m : Nat) : PER nx (it nx m n) k := by
  refine ⟨hp.1, ?_, fun q q0 q1 e => ?_⟩
  · rw [← it_add, Nat.add_comm, it_add, hp.2.1]
  · rw [← it_add, Nat.add_comm, it_add] at e
    exact hp.2.2 q q0 q1 (it_inj h (it_B h hn q) hn m e)
theorem it_ne (h : OK B nx) {n : Int} (hn : B n = true) {k : Nat} (hp : PER nx n k) {a b : Nat} (hab : a < b) (hb : b < k) : it nx a n ≠ it nx b n := by
  intro e
  rw [show b = a + (b - a) by omega, it_add] at e
  exact hp.2.2 (b - a) (by omega) (by omega) (it_inj h hn (it_B h hn _) a e).symm
theorem it_mul {n : Int} {k : Nat} (hp : it nx k n = n) : ∀ q : Nat, it nx (k * q) n = n := by
  intro q
  induction q with
  | zero => rfl
  | succ q ih => rw [Nat.mul_succ, it_add, hp, ih]
theorem it_mod {n : Int} {k : Nat} (hp : it nx k n = n) (m : Nat) : it nx m n = it nx (m % k) n := by
  have e : m = m % k + k * (m / k) := (Nat.mod_add_div m k).symm
  have : it nx (m % k + k * (m / k)) n = it nx (m % k) n := by rw [it_add, it_mul hp]
  rw [← e] at this
  exact this
theorem min_ex (h : OK B nx) {n : Int} (hn : B n = true) {k : Nat} (hp : PER nx n k) : ∃ m : Nat, m < k ∧ mn nx (it nx m n) := by
  have key : ∀ d : Nat, d ≤ k → 0 < d → ∃ m : Nat, m < d ∧ ∀ q : Nat, q < d → it nx m n ≤ it nx q n := by
    intro d
    induction d with
    | zero => intro _ h0; omega
    | succ d ih =>
      intro hd _
      by_cases z : d = 0
      · subst z
        exact ⟨0, by omega, fun q hq => by rw [show q = 0 by omega]; exact Int.le_refl _⟩
      · obtain ⟨m, m1, m2⟩ := ih (by omega) (by omega)
        by_cases w : it nx m n ≤ it nx d n
        · refine ⟨m, by omega, fun q hq => ?_⟩
          by_cases e : q = d
          · rw [e]; exact w
          · exact m2 q (by omega)
        · refine ⟨d, by omega, fun q hq => ?_⟩
          by_cases e : q = d
          · rw [e]; exact Int.le_refl _
          · have := m2 q (by omega)
            omega
  obtain ⟨m, m1, m2⟩ := key k (Nat.le_refl _) hp.1
  refine ⟨m, m1, fun q => ?_⟩
  rw [← it_add, it_mod hp.2.1 (q + m)]
  exact m2 _ (Nat.mod_lt _ hp.1)
theorem min_u (h : OK B nx) {n : Int} (hn : B n = true) {k : Nat} (hp : PER nx n k) {a b : Nat} (ha : a < k) (hb : b < k) (m1 : mn nx (it nx a n)) (m2 : mn nx (it nx b n)) : a = b := by
  have e1 : it nx a n ≤ it nx b n := by
    have := m1 (k - a + b)
    rw [← it_add, show k - a + b + a = b + k by omega, it_add, hp.2.1] at this
    exact this
  have e2 : it nx b n ≤ it nx a n := by
    have := m2 (k - b + a)
    rw [← it_add, show k - b + a + b = a + k by omega, it_add, hp.2.1] at this
    exact this
  have e : it nx a n = it nx b n := by omega
  rcases Nat.lt_trichotomy a b with w | w | w
  · exact absurd e (it_ne h hn hp w hb)
  · exact w
  · exact absurd e.symm (it_ne h hn hp w ha)
theorem cn_min (h : OK B nx) {n : Int} (hn : B n = true) {k : Nat} (hp : PER nx n k) : cn (fun m => ex (mn nx (it nx m.toNat n))) k = 1 := by
  obtain ⟨m, m1, m2⟩ := min_ex h hn hp
  have a := cn_rm (fun m => ex (mn nx (it nx m.toNat n))) (b := (m : Int)) k (by omega) (by omega) (ex_T (by rw [show ((m : Int)).toNat = m by omega]; exact m2))
  rw [a, cn_0 k (fun i i0 i1 => ?_)]
  · rfl
  · cases e : ex (mn nx (it nx i.toNat n)) with
    | false => rfl
    | true =>
      have := min_u h hn hp (a := i.toNat) (b := m) (by omega) m1 (ex_t.mp e) m2
      rw [decide_eq_true (show i = (m : Int) by omega)]; rfl
/-- the first return to a number that is not above the start -/
theorem fst_ex (h : OK B nx) {n : Int} (hn : B n = true) : ∃ k : Nat, 0 < k ∧ it nx k n ≤ n ∧ ∀ m : Nat, 0 < m → m < k → n < it nx m n := by
  obtain ⟨k, k0, k1, _⟩ := per_ex h hn
  obtain ⟨m, m1, m2, m3⟩ := lst_n (P := fun k => 0 < k ∧ it nx k n ≤ n) k ⟨k0, by rw [k1]; exact Int.le_refl _⟩
  refine ⟨m, m2.1, m2.2, fun q q0 q1 => ?_⟩
  apply Classical.byContradiction
  intro w
  exact m3 q q1 ⟨q0, by omega⟩
theorem fst_mn {n : Int} {k : Nat} (h0 : 0 < k) (h1 : it nx k n ≤ n) (h2 : ∀ m : Nat, 0 < m → m < k → n < it nx m n) : (it nx k n = n ↔ mn nx n) ∧ (it nx k n = n → PER nx n k) := by
  have hp : it nx k n = n → PER nx n k := fun e => ⟨h0, e, fun m m0 m1 z => by have := h2 m m0 m1; omega⟩
  refine ⟨⟨fun e q => ?_, fun hm => ?_⟩, hp⟩
  · rw [it_mod e]
    by_cases w : q % k = 0
    · rw [w]; exact Int.le_refl _
    · have := h2 (q % k) (by omega) (Nat.mod_lt _ h0)
      omega
  · have := hm k
    omega
end
def MX (nx : Int → Int) (P : Int → Prop) (M : Int) : Prop := (∀ (n : Int) (k : Nat), P n → PER nx n k → (k : Int) ≤ M) ∧ (M = 0 ∨ ∃ (n : Int) (k : Nat), P n ∧ PER nx n k ∧ (k : Int) = M)
theorem mx_u {nx : Int → Int} {P : Int → Prop} {M M' : Int} (h : MX nx P M) (h' : MX nx P M') (h0 : 0 ≤ M) (h0' : 0 ≤ M') : M = M' := by
  rcases h.2 with a | ⟨n, k, a1, a2, a3⟩
  · rcases h'.2 with b | ⟨m, q, b1, b2, b3⟩
    · omega
    · have := h.1 m q b1 b2; omega
  · have := h'.1 n k a1 a2
    rcases h'.2 with b | ⟨m, q, b1, b2, b3⟩
    · omega
    · have := h.1 m q b1 b2; omega
theorem mx_mn {B : Int → Bool} {nx : Int → Int} (h : OK B nx) {M : Int} (hm : MX nx (fun n => B n = true ∧ mn nx n) M) : MX nx (fun n => B n = true) M := by
  refine ⟨fun n k hn hp => ?_, ?_⟩
  · obtain ⟨m, m1, m2⟩ := min_ex h hn hp
    exact hm.1 _ k ⟨it_B h hn m, m2⟩ (per_it h hn hp m)
  · rcases hm.2 with a | ⟨n, k, a1, a2, a3⟩
    · exact Or.inl a
    · exact Or.inr ⟨n, k, a1.1, a2, a3⟩
theorem ok_be {A : Int → Int → Bool} (hC : Cl A) (hO : SO A) : OK (Be A) (nxe A) :=
  ⟨fun _ h => (of_decide_eq_true h).1, fun _ h => (be_nx hC hO h).1, fun _ _ h h' e => nxe_inj hC hO h h' e⟩
end
section
section
variable {c bd : Int32} {rows drawn passed work inner crn rfr rto par cel opn rst : Nat → Int32}
theorem xx_cel {post : Int32 → Prop} {L : Int → Int → Int → Bool} (hR : RX L rows) (hO : RO L) {l i j : Int} (h : 0 ≤ l ∧ l < 6 ∧ -500 ≤ i ∧ i < 500 ∧ -500 ≤ j ∧ j < 500) : wpX_cell post (c, bd, rows, drawn, passed, work, inner, crn, rfr, rto, par, cel, opn, rst) (jI l) (jI i) (jI j) = post (b2 (L l i j)) := by
  by_cases h1 : i < 0
  · simp (disch := omega) only [wpX_cell, jl_0, jl_1, jl_2, jl_3, jl_4, jl_5, jl_6, jl_7, jl_8, jl_9, jl_12, jl_13, jl_16, jl_24, jl_25, jl_50, jl_168, jl_169, jl_624, jl_625, jl_1000, jI_add, jI_sub, jI_mul, jI_neg, jI_div, ie_mod, jI_leT, jI_leF, jI_ltT, jI_ltF, jI_eqT, jI_eqF, jI_cl, jI_inT, forall_eq, true_implies, false_implies, implies_true, not_true_eq_false, not_false_eq_true, true_and, and_true, b2_0, b2_z, hO l i j (by omega)]; rfl
  · by_cases h2 : 25 ≤ i
    · simp (disch := omega) only [wpX_cell, jl_0, jl_1, jl_2, jl_3, jl_4, jl_5, jl_6, jl_7, jl_8, jl_9, jl_12, jl_13, jl_16, jl_24, jl_25, jl_50, jl_168, jl_169, jl_624, jl_625, jl_1000, jI_add, jI_sub, jI_mul, jI_neg, jI_div, ie_mod, jI_leT, jI_leF, jI_ltT, jI_ltF, jI_eqT, jI_eqF, jI_cl, jI_inT, forall_eq, true_implies, false_implies, implies_true, not_true_eq_false, not_false_eq_true, true_and, and_true, b2_0, b2_z, hO l i j (by omega)]; rfl
    · simp (disch := omega) only [wpX_cell, jl_0, jl_1, jl_2, jl_3, jl_4, jl_5, jl_6, jl_7, jl_8, jl_9, jl_12, jl_13, jl_16, jl_24, jl_25, jl_50, jl_168, jl_169, jl_624, jl_625, jl_1000, jI_add, jI_sub, jI_mul, jI_neg, jI_div, ie_mod, jI_leT, jI_leF, jI_ltT, jI_ltF, jI_eqT, jI_eqF, jI_cl, jI_inT, forall_eq, true_implies, false_implies, implies_true, not_true_eq_false, not_false_eq_true, true_and, and_true, b2_0, b2_z, xx_row hR hO, wd_bit]
      cases L l i j
      · simp only [true_implies, not_true_eq_false, false_implies, and_true]; rfl
      · simp only [reduceCtorEq, false_implies, not_false_eq_true, true_implies, true_and]; rfl
theorem xx_ahd {post : Int32 → Prop} {L : Int → Int → Int → Bool} (hR : RX L rows) (hO : RO L) {l p q D : Int} (h : 0 ≤ l ∧ l < 6 ∧ -5 ≤ p ∧ p < 30 ∧ -5 ≤ q ∧ q < 30) (hD : 0 ≤ D ∧ D ≤ 3) : wpX_ahead post (c, bd, rows, drawn, passed, work, inner, crn, rfr, rto, par, cel, opn, rst) (jI l) (jI p) (jI q) (jI D) = post (jI (nd (L l) p q D)) := by
  have key : ∀ a1 b1 c1 d1 : Int, L l a1 b1 = qc (L l) p q D → L l c1 d1 = qc (L l) p q ((D + 3) % 4) → (-500 ≤ a1 ∧ a1 < 500 ∧ -500 ≤ b1 ∧ b1 < 500) → (-500 ≤ c1 ∧ c1 < 500 ∧ -500 ≤ d1 ∧ d1 < 500) →
      wpX_cell (fun r_5 => (((r_5 = jI 0 → (post (jI (D + 1) &&& jI 3))) ∧ (¬ r_5 = jI 0 → (wpX_cell (fun r_21 => (((r_21 = jI 0 → (post (jI D))) ∧ (¬ r_21 = jI 0 → (post (jI (D + 3) &&& jI 3)))))) (c, bd, rows, drawn, passed, work, inner, crn, rfr, rto, par, cel, opn, rst) (jI l) (jI c1) (jI d1)))))) (c, bd, rows, drawn, passed, work, inner, crn, rfr, rto, par, cel, opn, rst) (jI l) (jI a1) (jI b1) = post (jI (nd (L l) p q D)) := by
    intro a1 b1 c1 d1 h1 h2 ha hc
    simp (disch := omega) only [xx_cel hR hO, h1, h2, b2_0, jI_a3]
    unfold nd
    cases e1 : qc (L l) p q D
    · simp only [true_implies, not_true_eq_false, false_implies, and_true, if_true]
    · cases e2 : qc (L l) p q ((D + 3) % 4)
      · simp only [reduceCtorEq, true_implies, false_implies, not_true_eq_false, not_false_eq_true, true_and, and_true, if_false]
      · simp only [reduceCtorEq, true_implies, false_implies, not_true_eq_false, not_false_eq_true, true_and, and_true, if_false, if_true]
  have hr := qc_r (L l) p q hD
  rcases d4 hD with rfl | rfl | rfl | rfl
  · have k := key (p + 1 - 0) (q + 0 + 1) (p + 1 + 0) (q + 0 - 1) rfl hr (by omega) (by omega)
    simp (disch := omega) only [wpX_ahead, wX_ahead_20, wX_ahead_43, jl_0, jl_1, jl_2, jl_3, jl_4, jl_5, jl_6, jl_7, jl_8, jl_9, jl_12, jl_13, jl_16, jl_24, jl_25, jl_50, jl_168, jl_169, jl_624, jl_625, jl_1000, jI_add, jI_sub, jI_mul, jI_neg, jI_div, ie_mod, jI_leT, jI_leF, jI_ltT, jI_ltF, jI_eqT, jI_eqF, jI_cl, jI_inT, forall_eq, true_implies, false_implies, implies_true, not_true_eq_false, not_false_eq_true, true_and, and_true, b2_0, b2_z]
    exact k
  · have k := key (p + 0 - 1) (q + 1 + 0) (p + 0 + 1) (q + 1 - 0) rfl hr (by omega) (by omega)
    simp (disch := omega) only [wpX_ahead, wX_ahead_20, wX_ahead_43, jl_0, jl_1, jl_2, jl_3, jl_4, jl_5, jl_6, jl_7, jl_8, jl_9, jl_12, jl_13, jl_16, jl_24, jl_25, jl_50, jl_168, jl_169, jl_624, jl_625, jl_1000, jI_add, jI_sub, jI_mul, jI_neg, jI_div, ie_mod, jI_leT, jI_leF, jI_ltT, jI_ltF, jI_eqT, jI_eqF, jI_cl, jI_inT, forall_eq, true_implies, false_implies, implies_true, not_true_eq_false, not_false_eq_true, true_and, and_true, b2_0, b2_z]
    exact k
  · have k := key (p + -1 - 0) (q + 0 + -1) (p + -1 + 0) (q + 0 - -1) rfl hr (by omega) (by omega)
    simp (disch := omega) only [wpX_ahead, wX_ahead_20, wX_ahead_43, jl_0, jl_1, jl_2, jl_3, jl_4, jl_5, jl_6, jl_7, jl_8, jl_9, jl_12, jl_13, jl_16, jl_24, jl_25, jl_50, jl_168, jl_169, jl_624, jl_625, jl_1000, jI_add, jI_sub, jI_mul, jI_neg, jI_div, ie_mod, jI_leT, jI_leF, jI_ltT, jI_ltF, jI_eqT, jI_eqF, jI_cl, jI_inT, forall_eq, true_implies, false_implies, implies_true, not_true_eq_false, not_false_eq_true, true_and, and_true, b2_0, b2_z]
    exact k
  · have k := key (p + 0 - -1) (q + -1 + 0) (p + 0 + -1) (q + -1 - 0) rfl hr (by omega) (by omega)
    simp (disch := omega) only [wpX_ahead, wX_ahead_20, wX_ahead_43, jl_0, jl_1, jl_2, jl_3, jl_4, jl_5, jl_6, jl_7, jl_8, jl_9, jl_12, jl_13, jl_16, jl_24, jl_25, jl_50, jl_168, jl_169, jl_624, jl_625, jl_1000, jI_add, jI_sub, jI_mul, jI_neg, jI_div, ie_mod, jI_leT, jI_leF, jI_ltT, jI_ltF, jI_eqT, jI_eqF, jI_cl, jI_inT, forall_eq, true_implies, false_implies, implies_true, not_true_eq_false, not_false_eq_true, true_and, and_true, b2_0, b2_z]
    exact k
theorem xx_f170 {post : Int32 → SX → Prop} {J : Int32 → Int32 → Int32 → Int32 → Int32 → (Nat → Int32) → (Nat → Int32) → (Nat → Int32) → (Nat → Int32) → (Nat → Int32) → (Nat → Int32) → (Nat → Int32) → (Nat → Int32) → (Nat → Int32) → (Nat → Int32) → (Nat → Int32) → (Nat → Int32) → Prop} {x1 x7 : Int32} {p q e : Int} (he : 0 ≤ e ∧ e ≤ 3) :
    wX_follow_170 post J x1 x7 (jI p) (jI q) (jI e) c bd rows drawn passed work inner crn rfr rto par cel opn rst = J (jI (p + vx e)) (jI (q + vy e)) (jI e) x7 bd rows drawn passed work inner crn rfr rto par cel opn rst := by
  rcases d4 he with rfl | rfl | rfl | rfl
  · simp (disch := omega) only [wX_follow_170, wX_follow_196, jl_0, jl_1, jl_2, jl_3, jl_4, jl_5, jl_6, jl_7, jl_8, jl_9, jl_12, jl_13, jl_16, jl_24, jl_25, jl_50, jl_168, jl_169, jl_624, jl_625, jl_1000, jI_add, jI_sub, jI_mul, jI_neg, jI_div, ie_mod, jI_leT, jI_leF, jI_ltT, jI_ltF, jI_eqT, jI_eqF, jI_cl, jI_inT, forall_eq, true_implies, false_implies, implies_true, not_true_eq_false, not_false_eq_true, true_and, and_true, b2_0, b2_z]; rfl
  · simp (disch := omega) only [wX_follow_170, wX_follow_196, jl_0, jl_1, jl_2, jl_3, jl_4, jl_5, jl_6, jl_7, jl_8, jl_9, jl_12, jl_13, jl_16, jl_24, jl_25, jl_50, jl_168, jl_169, jl_624, jl_625, jl_1000, jI_add, jI_sub, jI_mul, jI_neg, jI_div, ie_mod, jI_leT, jI_leF, jI_ltT, jI_ltF, jI_eqT, jI_eqF, jI_cl, jI_inT, forall_eq, true_implies, false_implies, implies_true, not_true_eq_false, not_false_eq_true, true_and, and_true, b2_0, b2_z]; rfl
  · simp (disch := omega) only [wX_follow_170, wX_follow_196, jl_0, jl_1, jl_2, jl_3, jl_4, jl_5, jl_6, jl_7, jl_8, jl_9, jl_12, jl_13, jl_16, jl_24, jl_25, jl_50, jl_168, jl_169, jl_624, jl_625, jl_1000, jI_add, jI_sub, jI_mul, jI_neg, jI_div, ie_mod, jI_leT, jI_leF, jI_ltT, jI_ltF, jI_eqT, jI_eqF, jI_cl, jI_inT, forall_eq, true_implies, false_implies, implies_true, not_true_eq_false, not_false_eq_true, true_and, and_true, b2_0, b2_z]; rfl
  · simp (disch := omega) only [wX_follow_170, wX_follow_196, jl_0, jl_1, jl_2, jl_3, jl_4, jl_5, jl_6, jl_7, jl_8, jl_9, jl_12, jl_13, jl_16, jl_24, jl_25, jl_50, jl_168, jl_169, jl_624, jl_625, jl_1000, jI_add, jI_sub, jI_mul, jI_neg, jI_div, ie_mod, jI_leT, jI_leF, jI_ltT, jI_ltF, jI_eqT, jI_eqF, jI_cl, jI_inT, forall_eq, true_implies, false_implies, implies_true, not_true_eq_false, not_false_eq_true, true_and, and_true, b2_0, b2_z]; rfl
theorem xx_f137 {post : Int32 → SX → Prop} {L : Int → Int → Int → Bool} (hR : RX L rows) (hO : RO L) {J : Int32 → Int32 → Int32 → Int32 → Int32 → (Nat → Int32) → (Nat → Int32) → (Nat → Int32) → (Nat → Int32) → (Nat → Int32) → (Nat → Int32) → (Nat → Int32) → (Nat → Int32) → (Nat → Int32) → (Nat → Int32) → (Nat → Int32) → (Nat → Int32) → Prop} {x7 : Int32} {l p y b D z : Int} (hl : 0 ≤ l ∧ l < 6) (h : -5 ≤ p ∧ p < 30 ∧ -5 ≤ y + z ∧ y + z < 30) (hD : 0 ≤ D ∧ D ≤ 3)
    (hJ : J (jI (p + vx (nd (L l) p (y + z) D))) (jI (y + z + vy (nd (L l) p (y + z) D))) (jI (nd (L l) p (y + z) D)) x7 (jI (if nd (L l) p (y + z) D = D then b else b + 1)) rows drawn passed work inner crn rfr rto par cel opn rst) :
    wX_follow_137 post J (jI l) (jI D) x7 (jI p) (jI z) (jI y) c (jI b) rows drawn passed work inner crn rfr rto par cel opn rst := by
  have hn := nd_r (L l) p (y + z) hD
  by_cases w : nd (L l) p (y + z) D = D
  · rw [if_pos w] at hJ
    simp (disch := omega) only [wX_follow_137, jl_0, jl_1, jl_2, jl_3, jl_4, jl_5, jl_6, jl_7, jl_8, jl_9, jl_12, jl_13, jl_16, jl_24, jl_25, jl_50, jl_168, jl_169, jl_624, jl_625, jl_1000, jI_add, jI_sub, jI_mul, jI_neg, jI_div, ie_mod, jI_leT, jI_leF, jI_ltT, jI_ltF, jI_eqT, jI_eqF, jI_cl, jI_inT, forall_eq, true_implies, false_implies, implies_true, not_true_eq_false, not_false_eq_true, true_and, and_true, b2_0, b2_z, xx_ahd hR hO, xx_f170]
    exact hJ
  · rw [if_neg w] at hJ
    simp (disch := omega) only [wX_follow_137, jl_0, jl_1, jl_2, jl_3, jl_4, jl_5, jl_6, jl_7, jl_8, jl_9, jl_12, jl_13, jl_16, jl_24, jl_25, jl_50, jl_168, jl_169, jl_624, jl_625, jl_1000, jI_add, jI_sub, jI_mul, jI_neg, jI_div, ie_mod, jI_leT, jI_leF, jI_ltT, jI_ltF, jI_eqT, jI_eqF, jI_cl, jI_inT, forall_eq, true_implies, false_implies, implies_true, not_true_eq_false, not_false_eq_true, true_and, and_true, b2_0, b2_z, xx_ahd hR hO, xx_f170]
    exact hJ
theorem xx_fst {post : Int32 → SX → Prop} {L : Int → Int → Int → Bool} (hR : RX L rows) (hO : RO L) {l x y b D k : Int} {m : Nat} {W : Int → Bool} (hl : 0 ≤ l ∧ l < 6) (h : 0 ≤ x ∧ x < 25 ∧ 0 ≤ y ∧ y < 25) (hD : 0 ≤ D ∧ D ≤ 3)
    (hw : work y.toNat = wd (fun i => decide (0 ≤ i ∧ i < 25) && W (25 * i + y))) (ht : W (25 * x + y) = true)
    (hJ : wX_follow_55 post (jI l) c m (jI (x + vx D + vx (nd (L l) (x + vx D) (y + vy D) D))) (jI (y + vy D + vy (nd (L l) (x + vx D) (y + vy D) D))) (jI (nd (L l) (x + vx D) (y + vy D) D)) (jI (k + 1)) (jI (if nd (L l) (x + vx D) (y + vy D) D = D then b else b + 1)) rows drawn passed (upd work y.toNat (wd (fun i => decide (0 ≤ i ∧ i < 25) && (W (25 * i + y) && !decide (25 * i + y = 25 * x + y))))) inner crn rfr rto par cel opn rst) :
    wX_follow_55 post (jI l) c (m + 1) (jI x) (jI y) (jI D) (jI k) (jI b) rows drawn passed work inner crn rfr rto par cel opn rst := by
  have e1 : (decide (0 ≤ x ∧ x < 25) && W (25 * x + y)) = true := by rw [ht, decide_eq_true (by omega)]; rfl
  have e2 : wd (fun i => decide (0 ≤ i ∧ i < 25) && W (25 * i + y)) &&& wd (fun i => !decide (i = x)) = wd (fun i => decide (0 ≤ i ∧ i < 25) && (W (25 * i + y) && !decide (25 * i + y = 25 * x + y))) := by
    rw [wd_and]
    refine wd_c (fun i _ _ => ?_)
    rw [Bool.and_assoc, show decide (25 * i + y = 25 * x + y) = decide (i = x) from decide_eq_decide.mpr (by omega)]
  rcases d4 hD with rfl | rfl | rfl | rfl
  · simp (disch := omega) only [wX_follow_55, wX_follow_111, jl_0, jl_1, jl_2, jl_3, jl_4, jl_5, jl_6, jl_7, jl_8, jl_9, jl_12, jl_13, jl_16, jl_24, jl_25, jl_50, jl_168, jl_169, jl_624, jl_625, jl_1000, jI_add, jI_sub, jI_mul, jI_neg, jI_div, ie_mod, jI_leT, jI_leF, jI_ltT, jI_ltF, jI_eqT, jI_eqF, jI_cl, jI_inT, forall_eq, true_implies, false_implies, implies_true, not_true_eq_false, not_false_eq_true, true_and, and_true, b2_0, b2_z, hw, wd_bit, e1, b2_T, wd_one, wd_notJ, e2]
    exact xx_f137 hR hO hl (by omega) (by omega) hJ
  · simp (disch := omega) only [wX_follow_55, wX_follow_111, jl_0, jl_1, jl_2, jl_3, jl_4, jl_5, jl_6, jl_7, jl_8, jl_9, jl_12, jl_13, jl_16, jl_24, jl_25, jl_50, jl_168, jl_169, jl_624, jl_625, jl_1000, jI_add, jI_sub, jI_mul, jI_neg, jI_div, ie_mod, jI_leT, jI_leF, jI_ltT, jI_ltF, jI_eqT, jI_eqF, jI_cl, jI_inT, forall_eq, true_implies, false_implies, implies_true, not_true_eq_false, not_false_eq_true, true_and, and_true, b2_0, b2_z, hw, wd_bit, e1, b2_T, wd_one, wd_notJ, e2]
    exact xx_f137 hR hO hl (by omega) (by omega) hJ
  · simp (disch := omega) only [wX_follow_55, wX_follow_111, jl_0, jl_1, jl_2, jl_3, jl_4, jl_5, jl_6, jl_7, jl_8, jl_9, jl_12, jl_13, jl_16, jl_24, jl_25, jl_50, jl_168, jl_169, jl_624, jl_625, jl_1000, jI_add, jI_sub, jI_mul, jI_neg, jI_div, ie_mod, jI_leT, jI_leF, jI_ltT, jI_ltF, jI_eqT, jI_eqF, jI_cl, jI_inT, forall_eq, true_implies, false_implies, implies_true, not_true_eq_false, not_false_eq_true, true_and, and_true, b2_0, b2_z, hw, wd_bit, e1, b2_T, wd_one, wd_notJ, e2]
    exact xx_f137 hR hO hl (by omega) (by omega) hJ
  · simp (disch := omega) only [wX_follow_55, wX_follow_111, jl_0, jl_1, jl_2, jl_3, jl_4, jl_5, jl_6, jl_7, jl_8, jl_9, jl_12, jl_13, jl_16, jl_24, jl_25, jl_50, jl_168, jl_169, jl_624, jl_625, jl_1000, jI_add, jI_sub, jI_mul, jI_neg, jI_div, ie_mod, jI_leT, jI_leF, jI_ltT, jI_ltF, jI_eqT, jI_eqF, jI_cl, jI_inT, forall_eq, true_implies, false_implies, implies_true, not_true_eq_false, not_false_eq_true, true_and, and_true, b2_0, b2_z, hw, wd_bit, e1, b2_T, wd_one, wd_notJ, e2]
    exact xx_f137 hR hO hl (by omega) (by omega) hJ
/-- the words hold the set W -/
def HW (W : Int → Bool) (work : Nat → Int32) : Prop := ∀ j : Int, 0 ≤ j → j < 25 → work j.toNat = wd (fun i => decide (0 ≤ i ∧ i < 25) && W (25 * i + j))
theorem hw_rm {W : Int → Bool} {work : Nat → Int32} (h : HW W work) {n : Int} (hn : 0 ≤ n ∧ n < 625) : HW (fun m => W m && !decide (m = n)) (upd work (n % 25).toNat (wd (fun i => decide (0 ≤ i ∧ i < 25) && (W (25 * i + n % 25) && !decide (25 * i + n % 25 = 25 * (n / 25) + n % 25))))) := by
  intro j j0 j1
  by_cases w : j = n % 25
  · rw [w, up_s]
    refine wd_c (fun i _ _ => ?_)
    dsimp only
    rw [show 25 * (n / 25) + n % 25 = n by omega]
  · rw [up_n (by omega), h j j0 j1]
    refine wd_c (fun i i0 i1 => ?_)
    dsimp only
    by_cases z : 0 ≤ i ∧ i < 25
    · rw [decide_eq_false (show ¬ 25 * i + j = n by omega)]; simp
    · rw [decide_eq_false z]; rfl
/-- turns -/
def tu (A : Int → Int → Bool) (n : Int) : Bool := !decide (dr A (nxe A n / 25) (nxe A n % 25) = dr A (n / 25) (n % 25))
theorem cn_del (p W : Int → Bool) {n : Int} (hn : 0 ≤ n ∧ n < 625) (hW : W n = true) : cn (fun m => W m && p m) 625 = cn (fun m => (W m && !decide (m = n)) && p m) 625 + o1 (p n) := by
  cases e : p n with
  | true =>
    rw [cn_rm (fun m => W m && p m) (b := n) 625 hn.1 (by omega) (by rw [hW, e]; rfl)]
    have : cn (fun i => (W i && p i) && !decide (i = n)) 625 = cn (fun m => (W m && !decide (m = n)) && p m) 625 := cn_c 625 (fun i _ _ => by
      cases W i <;> cases p i <;> cases decide (i = n) <;> rfl)
    rw [this]; rfl
  | false =>
    rw [show o1 false = 0 from rfl, Int.add_zero]
    refine cn_c 625 (fun i _ _ => ?_)
    by_cases w : i = n
    · subst w; rw [e]; simp
    · rw [decide_eq_false w]; simp
theorem xx_f55 {post : Int32 → SX → Prop} {L : Int → Int → Int → Bool} (hR : RX L rows) (hO : RO L) {l : Int} (hC : Cl (L l)) (hl : 0 ≤ l ∧ l < 6) {s Tb : Int} {K : Nat} (hs : Be (L l) s = true) (hK : PER (nxe (L l)) s K) {W0 : Int → Bool} (hW0 : ∀ n, W0 n = true → W0 (nxe (L l) n) = true) (hs0 : W0 s = true)
    (h : ∀ (W : Int → Bool) (b : Int) (work' : Nat → Int32), HW W work' → (∀ n, W n = (W0 n && !ex (∃ m : Nat, m < K ∧ n = it (nxe (L l)) m s))) → b + cn (fun m => W m && tu (L l) m) 625 = Tb → cn (fun m => W0 m && ex (mn (nxe (L l)) m)) 625 = cn (fun m => W m && ex (mn (nxe (L l)) m)) 625 + 1 → post (jI K) (c, jI b, rows, drawn, passed, work', inner, crn, rfr, rto, par, cel, opn, rst)) :
    ∀ (d k : Nat) (W : Int → Bool) (b : Int) (work : Nat → Int32), k + d = K → HW W work → (∀ n, W n = (W0 n && !ex (∃ m : Nat, m < k ∧ n = it (nxe (L l)) m s))) → b + cn (fun m => W m && tu (L l) m) 625 = Tb →
      cn (fun m => W0 m && ex (mn (nxe (L l)) m)) 625 = cn (fun m => W m && ex (mn (nxe (L l)) m)) 625 + cn (fun m => ex (mn (nxe (L l)) (it (nxe (L l)) m.toNat s))) k →
      wX_follow_55 post (jI l) c (d + 1) (jI (it (nxe (L l)) k s / 25)) (jI (it (nxe (L l)) k s % 25)) (jI (dr (L l) (it (nxe (L l)) k s / 25) (it (nxe (L l)) k s % 25) - 1)) (jI k) (jI b) rows drawn passed work inner crn rfr rto par cel opn rst := by
  have hok := ok_be hC (hO l)
  have hin : ∀ k, W0 (it (nxe (L l)) k s) = true := by
    intro k
    induction k with
    | zero => exact hs0
    | succ k ih => exact hW0 _ ih
  intro d
  induction d with
  | zero =>
    intro k W b work hk hH hWW hT hM
    have ek : k = K := by omega
    subst ek
    have hb := of_decide_eq_true hs
    have e0 : W (25 * (s / 25) + s % 25) = false := by
      rw [show 25 * (s / 25) + s % 25 = s by omega, hWW s, ex_T ⟨0, hK.1, rfl⟩]; simp
    have e1 : (decide (0 ≤ s / 25 ∧ s / 25 < 25) && W (25 * (s / 25) + s % 25)) = false := by rw [e0, Bool.and_false]
    rw [hK.2.1]
    simp (disch := omega) only [wX_follow_55, jl_0, jl_1, jl_2, jl_3, jl_4, jl_5, jl_6, jl_7, jl_8, jl_9, jl_12, jl_13, jl_16, jl_24, jl_25, jl_50, jl_168, jl_169, jl_624, jl_625, jl_1000, jI_add, jI_sub, jI_mul, jI_neg, jI_div, ie_mod, jI_leT, jI_leF, jI_ltT, jI_ltF, jI_eqT, jI_eqF, jI_cl, jI_inT, forall_eq, true_implies, false_implies, implies_true, not_true_eq_false, not_false_eq_true, true_and, and_true, b2_0, b2_z, hH (s % 25) (by omega) (by omega), wd_bit, e1, b2_F]
    refine h W b work hH hWW hT ?_
    rw [hM, cn_min hok hs hK]
  | succ d ih =>
    intro k W b work hk hH hWW hT hM
    have hBk := it_B hok hs k
    have hb := of_decide_eq_true hBk
    have hed := ed_dr hb.2
    have hnx := be_nx hC (hO l) hBk
    have hWk : W (it (nxe (L l)) k s) = true := by
      rw [hWW, hin k, ex_F (fun z => by obtain ⟨m, m1, m2⟩ := z; exact it_ne hok hs hK m1 (by omega) m2.symm)]; rfl
    have hit : nxe (L l) (it (nxe (L l)) k s) = it (nxe (L l)) (k + 1) s := rfl
    have hrm := hw_rm hH hb.1
    generalize hN : it (nxe (L l)) k s = N at *
    have hnd := nd_r (L l) (N / 25 + vx (dr (L l) (N / 25) (N % 25) - 1)) (N % 25 + vy (dr (L l) (N / 25) (N % 25) - 1)) hed.1
    have hnext := ih (k + 1) (fun m => W m && !decide (m = N)) (if nd (L l) (N / 25 + vx (dr (L l) (N / 25) (N % 25) - 1)) (N % 25 + vy (dr (L l) (N / 25) (N % 25) - 1)) (dr (L l) (N / 25) (N % 25) - 1) = dr (L l) (N / 25) (N % 25) - 1 then b else b + 1) _ (by omega) hrm (fun n => ?_) ?_ ?_
    · refine xx_fst (W := W) hR hO hl (by omega) hed.1 (hH _ (by omega) (by omega)) (by rw [show 25 * (N / 25) + N % 25 = N by omega]; exact hWk) ?_
      have E3 : dr (L l) (it (nxe (L l)) (k + 1) s / 25) (it (nxe (L l)) (k + 1) s % 25) - 1 = nd (L l) (N / 25 + vx (dr (L l) (N / 25) (N % 25) - 1)) (N % 25 + vy (dr (L l) (N / 25) (N % 25) - 1)) (dr (L l) (N / 25) (N % 25) - 1) := by
        rw [← hit, hnx.2.1]; omega
      have E1 : it (nxe (L l)) (k + 1) s / 25 = N / 25 + vx (dr (L l) (N / 25) (N % 25) - 1) + vx (nd (L l) (N / 25 + vx (dr (L l) (N / 25) (N % 25) - 1)) (N % 25 + vy (dr (L l) (N / 25) (N % 25) - 1)) (dr (L l) (N / 25) (N % 25) - 1)) := by
        rw [← E3, ← hit]; exact hnx.2.2.1
      have E2 : it (nxe (L l)) (k + 1) s % 25 = N % 25 + vy (dr (L l) (N / 25) (N % 25) - 1) + vy (nd (L l) (N / 25 + vx (dr (L l) (N / 25) (N % 25) - 1)) (N % 25 + vy (dr (L l) (N / 25) (N % 25) - 1)) (dr (L l) (N / 25) (N % 25) - 1)) := by
        rw [← E3, ← hit]; exact hnx.2.2.2
      rw [E3, E1, E2] at hnext
      rw [show (((k + 1 : Nat) : Int)) = (k : Int) + 1 by omega] at hnext
      exact hnext
    · rw [hWW n]
      by_cases w : n = N
      · rw [decide_eq_true w, ex_T (⟨k, by omega, by rw [w, hN]⟩ : ∃ m : Nat, m < k + 1 ∧ n = it (nxe (L l)) m s)]; simp
      · rw [decide_eq_false w, Bool.not_false, Bool.and_true]
        congr 2
        refine ex_c ⟨fun z => ?_, fun z => ?_⟩
        · obtain ⟨m, m1, m2⟩ := z; exact ⟨m, by omega, m2⟩
        · obtain ⟨m, m1, m2⟩ := z
          by_cases y : m = k
          · rw [y, hN] at m2; exact absurd m2 w
          · exact ⟨m, by omega, m2⟩
    · have hdel := cn_del (tu (L l)) W hb.1 hWk
      have htu : o1 (tu (L l) N) = if nd (L l) (N / 25 + vx (dr (L l) (N / 25) (N % 25) - 1)) (N % 25 + vy (dr (L l) (N / 25) (N % 25) - 1)) (dr (L l) (N / 25) (N % 25) - 1) = dr (L l) (N / 25) (N % 25) - 1 then 0 else 1 := by
        unfold tu
        rw [hnx.2.1]
        by_cases w : nd (L l) (N / 25 + vx (dr (L l) (N / 25) (N % 25) - 1)) (N % 25 + vy (dr (L l) (N / 25) (N % 25) - 1)) (dr (L l) (N / 25) (N % 25) - 1) = dr (L l) (N / 25) (N % 25) - 1
        · rw [if_pos w, decide_eq_true (by omega)]; rfl
        · rw [if_neg w, decide_eq_false (by omega)]; rfl
      rw [htu] at hdel
      by_cases w : nd (L l) (N / 25 + vx (dr (L l) (N / 25) (N % 25) - 1)) (N % 25 + vy (dr (L l) (N / 25) (N % 25) - 1)) (dr (L l) (N / 25) (N % 25) - 1) = dr (L l) (N / 25) (N % 25) - 1
      · rw [if_pos w] at hdel ⊢; omega
      · rw [if_neg w] at hdel ⊢; omega
    · have hdel := cn_del (fun m => ex (mn (nxe (L l)) m)) W hb.1 hWk
      have e : cn (fun m => ex (mn (nxe (L l)) (it (nxe (L l)) m.toNat s))) (k + 1) = cn (fun m => ex (mn (nxe (L l)) (it (nxe (L l)) m.toNat s))) k + o1 (ex (mn (nxe (L l)) N)) := by
        rw [cn_s, show ((k : Int)).toNat = k by omega, hN]
      rw [e, hM, hdel]
      omega
end
end
section
theorem per_le {B : Int → Bool} {nx : Int → Int} (h : OK B nx) {n : Int} (hn : B n = true) {k : Nat} (hp : PER nx n k) : k ≤ 625 := by
  have hle := cn_inj (fun i => it nx i.toNat n) 625 k (fun _ => true) (fun _ => true) (fun i _ _ _ => ⟨(h.1 _ (it_B h hn _)).1, (h.1 _ (it_B h hn _)).2, rfl⟩) (fun i m i0 i1 _ m0 m1 _ e => by
    rcases Nat.lt_trichotomy i.toNat m.toNat with w | w | w
    · exact absurd e (it_ne h hn hp w (by omega))
    · omega
    · exact absurd e.symm (it_ne h hn hp w (by omega)))
  rw [cn_all, cn_all] at hle
  omega
theorem dr_n0 (A : Int → Int → Bool) (i j : Int) : dr A i j ≠ 0 ↔ (i + j) % 2 = 1 ∧ pt A i j = 1 := by
  constructor
  · intro h
    apply Classical.byContradiction
    intro w
    exact h (if_neg w)
  · intro h
    unfold dr
    rw [if_pos h]
    repeat' split
    all_goals omega
/-- what is kept while the rings are taken out -/
def RI (A : Int → Int → Bool) (W : Int → Bool) (many longest b : Int) (work : Nat → Int32) : Prop :=
  HW W work ∧ (∀ n, W n = true → Be A n = true) ∧ (∀ n, W n = true → W (nxe A n) = true) ∧ b + cn (fun m => W m && tu A m) 625 = cn (fun m => Be A m && tu A m) 625 ∧
  many + cn (fun m => W m && ex (mn (nxe A) m)) 625 = cn (fun m => Be A m && ex (mn (nxe A) m)) 625 ∧ MX (nxe A) (fun n => Be A n = true ∧ W n = false) longest ∧ (0 ≤ longest ∧ longest ≤ 625) ∧ (0 ≤ many ∧ many ≤ 625)
section
variable {c bd : Int32} {rows drawn passed work inner crn rfr rto par cel opn rst : Nat → Int32}
variable {post : Int32 → SX → Prop}
theorem xx_lowest {post : Int32 → Prop} {F : Int → Bool} {i : Int} (h0 : 0 ≤ i) (h1 : i < 32) (hi : F i = true) (hl : ∀ q : Int, 0 ≤ q → q < i → F q = false) (hp : post (jI i)) : wpX_lowest post (wd F) := by
  simp only [wpX_lowest]
  refine lj_a (fun n q (_ : Unit) => wX_lowest_2 post (wd F) n (jI q)) (fun _ => ()) 0 i rfl h0 (fun n => ?_) (fun n q q0 q1 ih => ?_)
  · simp (disch := omega) only [wX_lowest_2, jl_0, jl_1, jl_2, jl_3, jl_4, jl_5, jl_6, jl_7, jl_8, jl_9, jl_12, jl_13, jl_16, jl_24, jl_25, jl_50, jl_168, jl_169, jl_624, jl_625, jl_1000, jI_add, jI_sub, jI_mul, jI_neg, jI_div, ie_mod, jI_leT, jI_leF, jI_ltT, jI_ltF, jI_eqT, jI_eqF, jI_cl, jI_inT, forall_eq, true_implies, false_implies, implies_true, not_true_eq_false, not_false_eq_true, true_and, and_true, b2_0, b2_z, wd_bit, hi, b2_T]; exact hp
  · simp (disch := omega) only [wX_lowest_2, jl_0, jl_1, jl_2, jl_3, jl_4, jl_5, jl_6, jl_7, jl_8, jl_9, jl_12, jl_13, jl_16, jl_24, jl_25, jl_50, jl_168, jl_169, jl_624, jl_625, jl_1000, jI_add, jI_sub, jI_mul, jI_neg, jI_div, ie_mod, jI_leT, jI_leF, jI_ltT, jI_ltF, jI_eqT, jI_eqF, jI_cl, jI_inT, forall_eq, true_implies, false_implies, implies_true, not_true_eq_false, not_false_eq_true, true_and, and_true, b2_0, b2_z, wd_bit, hl q q0 q1, b2_F]; exact ih
theorem xx_follow {L : Int → Int → Int → Bool} (hR : RX L rows) (hO : RO L) {l i j : Int} (hl : 0 ≤ l ∧ l < 6) (hij : 0 ≤ i ∧ i < 25 ∧ 0 ≤ j ∧ j < 25) (hd : dr (L l) i j ≠ 0)
    (h : ∃ n55, wX_follow_55 post (jI l) c n55 (jI i) (jI j) (jI (dr (L l) i j - 1)) (jI 0) bd rows drawn passed work inner crn rfr rto par cel opn rst) : wpX_follow post (c, bd, rows, drawn, passed, work, inner, crn, rfr, rto, par, cel, opn, rst) (jI l) (jI i) (jI j) := by
  have hc := (dr_n0 (L l) i j).mp hd
  by_cases hj : j % 2 = 1
  · have e : dr (L l) i j = if L l (i - 1) j = true then 2 else 4 := by
      unfold dr
      rw [if_pos hc, if_neg (by omega)]
    rw [e] at h
    simp (disch := omega) only [wpX_follow, jl_0, jl_1, jl_2, jl_3, jl_4, jl_5, jl_6, jl_7, jl_8, jl_9, jl_12, jl_13, jl_16, jl_24, jl_25, jl_50, jl_168, jl_169, jl_624, jl_625, jl_1000, jI_add, jI_sub, jI_mul, jI_neg, jI_div, ie_mod, jI_leT, jI_leF, jI_ltT, jI_ltF, jI_eqT, jI_eqF, jI_cl, jI_inT, forall_eq, true_implies, false_implies, implies_true, not_true_eq_false, not_false_eq_true, true_and, and_true, b2_0, b2_z, jI_a1, xx_cel hR hO]
    refine tf_c (fun z => ?_) (fun z => ?_)
    · rw [z] at h; exact h
    · rw [z] at h; exact h
  · have e : dr (L l) i j = if L l i (j + 1) = true then 1 else 3 := by
      unfold dr
      rw [if_pos hc, if_pos (by omega)]
    rw [e] at h
    simp (disch := omega) only [wpX_follow, jl_0, jl_1, jl_2, jl_3, jl_4, jl_5, jl_6, jl_7, jl_8, jl_9, jl_12, jl_13, jl_16, jl_24, jl_25, jl_50, jl_168, jl_169, jl_624, jl_625, jl_1000, jI_add, jI_sub, jI_mul, jI_neg, jI_div, ie_mod, jI_leT, jI_leF, jI_ltT, jI_ltF, jI_eqT, jI_eqF, jI_cl, jI_inT, forall_eq, true_implies, false_implies, implies_true, not_true_eq_false, not_false_eq_true, true_and, and_true, b2_0, b2_z, jI_a1, xx_cel hR hO]
    refine tf_c (fun z => ?_) (fun z => ?_)
    · rw [z] at h; exact h
    · rw [z] at h; exact h
theorem xx_fol2 {L : Int → Int → Int → Bool} (hR : RX L rows) (hO : RO L) {l i j : Int} (hC : Cl (L l)) (hl : 0 ≤ l ∧ l < 6) {b Tb : Int} {K : Nat} {W0 : Int → Bool} (hij : 0 ≤ i ∧ i < 25 ∧ 0 ≤ j ∧ j < 25) (hs : Be (L l) (25 * i + j) = true) (hK : PER (nxe (L l)) (25 * i + j) K) (hW0 : ∀ n, W0 n = true → W0 (nxe (L l) n) = true) (hs0 : W0 (25 * i + j) = true) (hH : HW W0 work) (hTb : b + cn (fun m => W0 m && tu (L l) m) 625 = Tb)
    (h : ∀ (W : Int → Bool) (b : Int) (work' : Nat → Int32), HW W work' → (∀ n, W n = (W0 n && !ex (∃ m : Nat, m < K ∧ n = it (nxe (L l)) m (25 * i + j)))) → b + cn (fun m => W m && tu (L l) m) 625 = Tb → cn (fun m => W0 m && ex (mn (nxe (L l)) m)) 625 = cn (fun m => W m && ex (mn (nxe (L l)) m)) 625 + 1 → post (jI K) (c, jI b, rows, drawn, passed, work', inner, crn, rfr, rto, par, cel, opn, rst)) :
    wpX_follow post (c, jI b, rows, drawn, passed, work, inner, crn, rfr, rto, par, cel, opn, rst) (jI l) (jI i) (jI j) := by
  have hsb := of_decide_eq_true hs
  have es1 : (25 * i + j) / 25 = i := by omega
  have es2 : (25 * i + j) % 25 = j := by omega
  rw [es1, es2] at hsb
  refine xx_follow hR hO hl hij hsb.2 ?_
  have base := xx_f55 hR hO hC hl hs hK hW0 hs0 h K 0 W0 b work (by omega) hH (fun n => by rw [ex_F (fun z => by obtain ⟨q, q1, _⟩ := z; omega), Bool.not_false, Bool.and_true]) hTb (by show _ = _ + 0; omega)
  have e0 : it (nxe (L l)) 0 (25 * i + j) = 25 * i + j := rfl
  rw [e0, es1, es2] at base
  exact ⟨K + 1, base⟩
theorem xx_r79 {L : Int → Int → Int → Bool} (hR : RX L rows) (hO : RO L) {l : Int} (hC : Cl (L l)) (hl : 0 ≤ l ∧ l < 6) {x2 : Int32} {j : Int} (hj : 0 ≤ j ∧ j < 25)
    {J : Int32 → Int32 → Int32 → Int32 → Int32 → (Nat → Int32) → (Nat → Int32) → (Nat → Int32) → (Nat → Int32) → (Nat → Int32) → (Nat → Int32) → (Nat → Int32) → (Nat → Int32) → (Nat → Int32) → (Nat → Int32) → (Nat → Int32) → (Nat → Int32) → Prop}
    (hJ : ∀ (W : Int → Bool) (many longest b : Int) (work : Nat → Int32), RI (L l) W many longest b work → (∀ j' i : Int, 0 ≤ j' → j' < j + 1 → 0 ≤ i → i < 25 → W (25 * i + j') = false) → J (jI many) (jI longest) (jI (j + 1)) c (jI b) rows drawn passed work inner crn rfr rto par cel opn rst) :
    ∀ (m : Nat) (W : Int → Bool) (many longest b : Int) (work : Nat → Int32), RI (L l) W many longest b work → (∀ j' i : Int, 0 ≤ j' → j' < j → 0 ≤ i → i < 25 → W (25 * i + j') = false) → cn W 625 < m →
      wX_rings_79 post J (jI l) x2 (jI j) m (jI many) (jI longest) (work j.toNat) c (jI b) rows drawn passed work inner crn rfr rto par cel opn rst := by
  have hok := ok_be hC (hO l)
  intro m
  induction m with
  | zero =>
    intro W many longest b work _ _ hm
    have := cn_nn W 625
    omega
  | succ m ih =>
    intro W many longest b work hI hrow hm
    obtain ⟨hH, hWB, hWn, hTb, hTm, hMX, hlg, hmy⟩ := hI
    have hwj := hH j hj.1 hj.2
    rw [wX_rings_79]
    by_cases hz : wd (fun i => decide (0 ≤ i ∧ i < 25) && W (25 * i + j)) = jI 0
    · rw [hwj]
      simp (disch := omega) only [jl_0, jl_1, jl_2, jl_3, jl_4, jl_5, jl_6, jl_7, jl_8, jl_9, jl_12, jl_13, jl_16, jl_24, jl_25, jl_50, jl_168, jl_169, jl_624, jl_625, jl_1000, jI_add, jI_sub, jI_mul, jI_neg, jI_div, ie_mod, jI_leT, jI_leF, jI_ltT, jI_ltF, jI_eqT, jI_eqF, jI_cl, jI_inT, forall_eq, true_implies, false_implies, implies_true, not_true_eq_false, not_false_eq_true, true_and, and_true, b2_0, b2_z, hz]
      refine hJ W many longest b work ⟨hH, hWB, hWn, hTb, hTm, hMX, hlg, hmy⟩ (fun j' i a1 a2 a3 a4 => ?_)
      by_cases w : j' = j
      · rw [wd_eq0] at hz
        have := hz i a3 (by omega)
        rw [decide_eq_true ⟨a3, a4⟩, Bool.true_and] at this
        rw [w]; exact this
      · exact hrow j' i a1 (by omega) a3 a4
    · obtain ⟨i0, i1, i2, i3⟩ := (wd_ne0 _).mp hz
      obtain ⟨i, p0, p1, p2, p3⟩ := lst_i (F := fun i => decide (0 ≤ i ∧ i < 25) && W (25 * i + j)) i0.toNat i0 rfl i1 i3
      have p2' : (decide (0 ≤ i ∧ i < 25) && W (25 * i + j)) = true := p2
      rw [Bool.and_eq_true, decide_eq_true_eq] at p2'
      have hsB := hWB _ p2'.2
      have hsb := of_decide_eq_true hsB
      have es1 : (25 * i + j) / 25 = i := by omega
      have es2 : (25 * i + j) % 25 = j := by omega
      rw [es1, es2] at hsb
      obtain ⟨K, hK⟩ := per_ex hok hsB
      have hKle := per_le hok hsB hK
      have hK0 := hK.1
      rw [hwj]
      refine br_f hz ?_
      refine xx_lowest p0 (by omega) p2 p3 ?_
      refine xx_fol2 hR hO hC hl (W0 := W) (K := K) ⟨p0, p2'.1.2, hj.1, hj.2⟩ hsB hK hWn p2'.2 hH hTb (fun W' b' work' hH' hW' hTb' hTm' => ?_)
      dsimp only
      have hW'0 : ∀ n, W' n = true → W n = true ∧ ¬ ∃ q : Nat, q < K ∧ n = it (nxe (L l)) q (25 * i + j) := by
        intro n hn
        rw [hW' n, Bool.and_eq_true, Bool.not_eq_true', ex_f] at hn
        exact hn
      have hcl : ∀ n, W' n = true → W' (nxe (L l) n) = true := by
        intro n hn
        have h2 := hW'0 n hn
        rw [hW', hWn n h2.1, ex_F]
        · rfl
        · rintro ⟨q, q1, q2⟩
          refine h2.2 ?_
          by_cases w : q = 0
          · refine ⟨K - 1, by omega, ?_⟩
            have e : it (nxe (L l)) K (25 * i + j) = nxe (L l) (it (nxe (L l)) (K - 1) (25 * i + j)) := by
              rw [show K = (K - 1) + 1 by omega]; rfl
            rw [w] at q2
            have q2' : nxe (L l) n = 25 * i + j := q2
            rw [← hK.2.1, e] at q2'
            exact hok.2.2 _ _ (hWB n h2.1) (it_B hok hsB _) q2'
          · refine ⟨q - 1, by omega, ?_⟩
            have e : it (nxe (L l)) q (25 * i + j) = nxe (L l) (it (nxe (L l)) (q - 1) (25 * i + j)) := by
              rw [show q = (q - 1) + 1 by omega]; rfl
            rw [e] at q2
            exact hok.2.2 _ _ (hWB n h2.1) (it_B hok hsB _) q2
      have hM2 := cn_nn (fun m => W' m && ex (mn (nxe (L l)) m)) 625
      have hMt := cn_max (fun m => Be (L l) m && ex (mn (nxe (L l)) m)) 625
      have hrow' : ∀ j' i : Int, 0 ≤ j' → j' < j → 0 ≤ i → i < 25 → W' (25 * i + j') = false := by
        intro j' i' a1 a2 a3 a4
        rw [hW', hrow j' i' a1 a2 a3 a4]; rfl
      have hcnt : cn W' 625 < m := by
        have hlt : cn W' 625 < cn W 625 := by
          refine sm_lt 625 (fun n _ _ => ?_) ⟨25 * i + j, by omega, by omega, ?_⟩
          · cases e : W' n with
            | false => exact (o1_r _).1
            | true => rw [(hW'0 n e).1]; exact Int.le_refl _
          · have e1 : W' (25 * i + j) = false := by
              rw [hW', ex_T ⟨0, hK0, rfl⟩]; simp
            rw [e1, p2'.2]
            decide
        omega
      have hRI : ∀ g : Int, (g = longest ∨ g = K) → longest ≤ g → (K : Int) ≤ g → RI (L l) W' (many + 1) g b' work' := by
        intro g hg g1 g2
        refine ⟨hH', fun n hn => hWB n (hW'0 n hn).1, hcl, hTb', by omega, ⟨fun n k hn hp => ?_, ?_⟩, by omega, by omega⟩
        · by_cases w : W n = true
          · have hno : ∃ q : Nat, q < K ∧ n = it (nxe (L l)) q (25 * i + j) := by
              apply Classical.byContradiction
              intro z
              have := hn.2
              rw [hW', w, ex_F z] at this
              cases this
            obtain ⟨q, q1, q2⟩ := hno
            have := per_it hok hsB hK q
            rw [← q2] at this
            have := per_u hp this
            omega
          · have wf : W n = false := by
              cases e : W n with
              | false => rfl
              | true => exact absurd e w
            have := hMX.1 n k ⟨hn.1, wf⟩ hp
            omega
        · rcases hg with e | e
          · rcases hMX.2 with z | ⟨n, k, z1, z2, z3⟩
            · exact Or.inl (by omega)
            · exact Or.inr ⟨n, k, ⟨z1.1, by rw [hW', z1.2]; rfl⟩, z2, by omega⟩
          · exact Or.inr ⟨25 * i + j, K, ⟨hsB, by rw [hW', ex_T ⟨0, hK0, rfl⟩]; simp⟩, hK, e.symm⟩
      by_cases w : (K : Int) ≤ longest
      · simp (disch := omega) only [jl_0, jl_1, jl_2, jl_3, jl_4, jl_5, jl_6, jl_7, jl_8, jl_9, jl_12, jl_13, jl_16, jl_24, jl_25, jl_50, jl_168, jl_169, jl_624, jl_625, jl_1000, jI_add, jI_sub, jI_mul, jI_neg, jI_div, ie_mod, jI_leT, jI_leF, jI_ltT, jI_ltF, jI_eqT, jI_eqF, jI_cl, jI_inT, forall_eq, true_implies, false_implies, implies_true, not_true_eq_false, not_false_eq_true, true_and, and_true, b2_0, b2_z]
        exact ih W' (many + 1) longest b' work' (hRI longest (Or.inl rfl) (Int.le_refl _) w) hrow' hcnt
      · simp (disch := omega) only [jl_0, jl_1, jl_2, jl_3, jl_4, jl_5, jl_6, jl_7, jl_8, jl_9, jl_12, jl_13, jl_16, jl_24, jl_25, jl_50, jl_168, jl_169, jl_624, jl_625, jl_1000, jI_add, jI_sub, jI_mul, jI_neg, jI_div, ie_mod, jI_leT, jI_leF, jI_ltT, jI_ltF, jI_eqT, jI_eqF, jI_cl, jI_inT, forall_eq, true_implies, false_implies, implies_true, not_true_eq_false, not_false_eq_true, true_and, and_true, b2_0, b2_z]
        exact ih W' (many + 1) K b' work' (hRI K (Or.inr rfl) (by omega) (Int.le_refl _)) hrow' hcnt
theorem xx_rings {L : Int → Int → Int → Bool} (hR : RX L rows) (hO : RO L) {l w : Int} (hC : Cl (L l)) (hl : 0 ≤ l ∧ l < 6) (hw : 6 ≤ w ∧ w ≤ 8)
    (h : ∀ (M : Int) (b : Int32) (work : Nat → Int32), MX (nxe (L l)) (fun n => Be (L l) n = true) M → 0 ≤ M → post (jI (if w = 6 then cn (fun m => Be (L l) m && ex (mn (nxe (L l)) m)) 625 else if w = 7 then M else cn (fun m => Be (L l) m && tu (L l) m) 625)) (c, b, rows, drawn, passed, work, inner, crn, rfr, rto, par, cel, opn, rst)) :
    wpX_rings post (c, bd, rows, drawn, passed, work, inner, crn, rfr, rto, par, cel, opn, rst) (jI l) (jI w) := by
  simp only [wpX_rings]
  refine lj_a (fun n i s => wX_rings_2 post (jI l) (jI w) c bd n (jI i) rows drawn passed s inner crn rfr rto par cel opn rst) (fun i => fl work i (fun j => wd (fun i => decide (0 ≤ i ∧ i < 25) && Be (L l) (25 * i + j)))) 0 25 (fl_0 _ _).symm (by omega) (fun n => ?_) (fun n j h0 h1 ih => ?_)
  · simp (disch := omega) only [wX_rings_2, jl_0, jl_1, jl_2, jl_3, jl_4, jl_5, jl_6, jl_7, jl_8, jl_9, jl_12, jl_13, jl_16, jl_24, jl_25, jl_50, jl_168, jl_169, jl_624, jl_625, jl_1000, jI_add, jI_sub, jI_mul, jI_neg, jI_div, ie_mod, jI_leT, jI_leF, jI_ltT, jI_ltF, jI_eqT, jI_eqF, jI_cl, jI_inT, forall_eq, true_implies, false_implies, implies_true, not_true_eq_false, not_false_eq_true, true_and, and_true, b2_0, b2_z]
    refine lj_i (fun n j s => wX_rings_63 post (jI l) (jI w) n s.1 s.2.1 (jI j) c s.2.2.1 rows drawn passed s.2.2.2 inner crn rfr rto par cel opn rst) (fun j s => ∃ (W : Int → Bool) (many longest b : Int), s.1 = jI many ∧ s.2.1 = jI longest ∧ s.2.2.1 = jI b ∧ RI (L l) W many longest b s.2.2.2 ∧ ∀ j' i : Int, 0 ≤ j' → j' < j → 0 ≤ i → i < 25 → W (25 * i + j') = false) 0 25 (s0 := (jI 0, jI 0, jI 0, fl work 25 (fun j => wd (fun i => decide (0 ≤ i ∧ i < 25) && Be (L l) (25 * i + j))))) ?_ (by omega) (fun n s hI => ?_) (fun n j s h0 h1 hI ih => ?_)
    · refine ⟨Be (L l), 0, 0, 0, rfl, rfl, rfl, ⟨fun j j0 j1 => fl_r (f := work) (m := 25) (g := fun j => wd (fun i => decide (0 ≤ i ∧ i < 25) && Be (L l) (25 * i + j))) (z := j) ⟨j0, j1⟩, fun _ h => h, fun n hn => (be_nx hC (hO l) hn).1, by omega, by omega, ⟨fun n k hn _ => ?_, Or.inl rfl⟩, by omega, by omega⟩, fun j' i a1 a2 => by omega⟩
      have := hn.2
      rw [hn.1] at this
      cases this
    · obtain ⟨x3, x4, bd, work⟩ := s
      obtain ⟨W, many, longest, b, e1, e2, e3, hI, hrow⟩ := hI
      dsimp only at e1 e2 e3 hI ⊢
      rw [e1, e2, e3]
      obtain ⟨hH, hWB, hWn, hTb, hTm, hMX, hlg, hmy⟩ := hI
      have hW0 : ∀ n : Int, 0 ≤ n → n < 625 → W n = false := by
        intro n n0 n1
        have := hrow (n % 25) (n / 25) (by omega) (by omega) (by omega) (by omega)
        rw [show 25 * (n / 25) + n % 25 = n by omega] at this
        exact this
      rw [cn_0 (p := fun m => W m && tu (L l) m) 625 (fun i i0 i1 => by rw [hW0 i i0 (by omega)]; rfl)] at hTb
      rw [cn_0 (p := fun m => W m && ex (mn (nxe (L l)) m)) 625 (fun i i0 i1 => by rw [hW0 i i0 (by omega)]; rfl)] at hTm
      have hMX' : MX (nxe (L l)) (fun n => Be (L l) n = true) longest := by
        refine ⟨fun n k hn hp => hMX.1 n k ⟨hn, ?_⟩ hp, ?_⟩
        · have := (of_decide_eq_true hn).1
          exact hW0 n this.1 this.2
        · rcases hMX.2 with z | ⟨n, k, z1, z2, z3⟩
          · exact Or.inl z
          · exact Or.inr ⟨n, k, z1.1, z2, z3⟩
      have hh := h longest (jI b) work hMX' hlg.1
      by_cases w6 : w = 6
      · rw [if_pos w6, show cn (fun m => Be (L l) m && ex (mn (nxe (L l)) m)) 625 = many by omega] at hh
        simp (disch := omega) only [wX_rings_63, jl_0, jl_1, jl_2, jl_3, jl_4, jl_5, jl_6, jl_7, jl_8, jl_9, jl_12, jl_13, jl_16, jl_24, jl_25, jl_50, jl_168, jl_169, jl_624, jl_625, jl_1000, jI_add, jI_sub, jI_mul, jI_neg, jI_div, ie_mod, jI_leT, jI_leF, jI_ltT, jI_ltF, jI_eqT, jI_eqF, jI_cl, jI_inT, forall_eq, true_implies, false_implies, implies_true, not_true_eq_false, not_false_eq_true, true_and, and_true, b2_0, b2_z]
        exact hh
      · by_cases w7 : w = 7
        · rw [if_neg w6, if_pos w7] at hh
          simp (disch := omega) only [wX_rings_63, jl_0, jl_1, jl_2, jl_3, jl_4, jl_5, jl_6, jl_7, jl_8, jl_9, jl_12, jl_13, jl_16, jl_24, jl_25, jl_50, jl_168, jl_169, jl_624, jl_625, jl_1000, jI_add, jI_sub, jI_mul, jI_neg, jI_div, ie_mod, jI_leT, jI_leF, jI_ltT, jI_ltF, jI_eqT, jI_eqF, jI_cl, jI_inT, forall_eq, true_implies, false_implies, implies_true, not_true_eq_false, not_false_eq_true, true_and, and_true, b2_0, b2_z]
          exact hh
        · rw [if_neg w6, if_neg w7, show cn (fun m => Be (L l) m && tu (L l) m) 625 = b by omega] at hh
          simp (disch := omega) only [wX_rings_63, jl_0, jl_1, jl_2, jl_3, jl_4, jl_5, jl_6, jl_7, jl_8, jl_9, jl_12, jl_13, jl_16, jl_24, jl_25, jl_50, jl_168, jl_169, jl_624, jl_625, jl_1000, jI_add, jI_sub, jI_mul, jI_neg, jI_div, ie_mod, jI_leT, jI_leF, jI_ltT, jI_ltF, jI_eqT, jI_eqF, jI_cl, jI_inT, forall_eq, true_implies, false_implies, implies_true, not_true_eq_false, not_false_eq_true, true_and, and_true, b2_0, b2_z]
          exact hh
    · obtain ⟨x3, x4, bd, work⟩ := s
      obtain ⟨W, many, longest, b, e1, e2, e3, hI, hrow⟩ := hI
      dsimp only at e1 e2 e3 hI ih ⊢
      rw [e1, e2, e3]
      simp (disch := omega) only [wX_rings_63, jl_0, jl_1, jl_2, jl_3, jl_4, jl_5, jl_6, jl_7, jl_8, jl_9, jl_12, jl_13, jl_16, jl_24, jl_25, jl_50, jl_168, jl_169, jl_624, jl_625, jl_1000, jI_add, jI_sub, jI_mul, jI_neg, jI_div, ie_mod, jI_leT, jI_leF, jI_ltT, jI_ltF, jI_eqT, jI_eqF, jI_cl, jI_inT, forall_eq, true_implies, false_implies, implies_true, not_true_eq_false, not_false_eq_true, true_and, and_true, b2_0, b2_z]
      have hcn := cn_nn W 625
      refine ⟨(cn W 625).toNat + 1, xx_r79 hR hO hC hl ⟨h0, h1⟩ (fun W' many' longest' b' work' hI' hrow' => ?_) _ W many longest b work hI hrow (by omega)⟩
      exact ih (jI many', jI longest', jI b', work') ⟨W', many', longest', b', rfl, rfl, rfl, hI', hrow'⟩
  · have hv : ∀ (P : Int → Prop) [DecidablePred P], (∀ i : Int, 0 ≤ i → i < 25 → (P i ↔ (i + j) % 2 = 1)) → wd (fun i => ((L l i j && !decide (pt (L l) i j = 0)) && decide (P i))) = wd (fun i => decide (0 ≤ i ∧ i < 25) && Be (L l) (25 * i + j)) := by
      intro P _ hP
      refine wd_c (fun i i0 i1 => ?_)
      by_cases z : i < 25
      · have hr := pt_r (L l) i j
        have hb : Be (L l) (25 * i + j) = decide ((i + j) % 2 = 1 ∧ pt (L l) i j = 1) := by
          unfold Be
          rw [show (25 * i + j) / 25 = i by omega, show (25 * i + j) % 25 = j by omega]
          refine decide_eq_decide.mpr ⟨fun q => (dr_n0 _ _ _).mp q.2, fun q => ⟨by omega, (dr_n0 _ _ _).mpr q⟩⟩
        rw [hb, decide_eq_true (show 0 ≤ i ∧ i < 25 by omega), Bool.true_and, show decide (P i) = decide ((i + j) % 2 = 1) from decide_eq_decide.mpr (hP i i0 z)]
        cases e : L l i j with
        | false =>
          rw [pt_2 e, decide_eq_false (show ¬ ((i + j) % 2 = 1 ∧ (2 : Int) = 1) by omega)]; rfl
        | true =>
          have := pt_lt e
          by_cases y : pt (L l) i j = 0
          · rw [decide_eq_true y, decide_eq_false (show ¬ ((i + j) % 2 = 1 ∧ pt (L l) i j = 1) by omega)]; rfl
          · rw [decide_eq_false y, show decide ((i + j) % 2 = 1 ∧ pt (L l) i j = 1) = decide ((i + j) % 2 = 1) from decide_eq_decide.mpr (by omega)]; rfl
      · rw [hO l i j (by omega), decide_eq_false (show ¬ (0 ≤ i ∧ i < 25) by omega)]; rfl
    by_cases hj : j % 2 = 1
    · simp (disch := omega) only [wX_rings_2, jl_0, jl_1, jl_2, jl_3, jl_4, jl_5, jl_6, jl_7, jl_8, jl_9, jl_12, jl_13, jl_16, jl_24, jl_25, jl_50, jl_168, jl_169, jl_624, jl_625, jl_1000, jI_add, jI_sub, jI_mul, jI_neg, jI_div, ie_mod, jI_leT, jI_leF, jI_ltT, jI_ltF, jI_eqT, jI_eqF, jI_cl, jI_inT, forall_eq, true_implies, false_implies, implies_true, not_true_eq_false, not_false_eq_true, true_and, and_true, b2_0, b2_z, xx_row hR hO, xx_int hR hO, jI_a1, wd_notJ, wd_and, wd_m5]
      rw [fl_S _ _ h0 (hv _ (fun i i0 i1 => by omega))]
      exact ih
    · simp (disch := omega) only [wX_rings_2, jl_0, jl_1, jl_2, jl_3, jl_4, jl_5, jl_6, jl_7, jl_8, jl_9, jl_12, jl_13, jl_16, jl_24, jl_25, jl_50, jl_168, jl_169, jl_624, jl_625, jl_1000, jI_add, jI_sub, jI_mul, jI_neg, jI_div, ie_mod, jI_leT, jI_leF, jI_ltT, jI_ltF, jI_eqT, jI_eqF, jI_cl, jI_inT, forall_eq, true_implies, false_implies, implies_true, not_true_eq_false, not_false_eq_true, true_and, and_true, b2_0, b2_z, xx_row hR hO, xx_int hR hO, jI_a1, wd_notJ, wd_and, wd_mA]
      rw [fl_S _ _ h0 (hv _ (fun i i0 i1 => by omega))]
      exact ih
end
end
section
section
variable {cy : Int32} {lys fil mad st px py lab : Nat → Int32}
variable {post : Int32 → Prop}
theorem yy_r48 {L : Int → Int → Int → Bool} (hY : RY L lys) (hO : RO L) {l : Int} (hC : Cl (L l)) (hl : 0 ≤ l ∧ l < 6) {J : Int32 → Int32 → Int32 → Int32 → Prop} {x2 : Int32} {many longest cor n : Int} (hn : Be (L l) n = true) (hmy : 0 ≤ many ∧ many ≤ 625) (hlg : 0 ≤ longest ∧ longest ≤ 625) {K : Nat} (hK0 : 0 < K) (hK1 : it (nxe (L l)) K n ≤ n) (hK2 : ∀ m : Nat, 0 < m → m < K → n < it (nxe (L l)) m n) (hKle : K ≤ 625)
    (h1 : it (nxe (L l)) K n = n → J (jI (many + 1)) (jI (max longest K)) (jI (cor + o1 (tu (L l) n))) (jI (n + 1)))
    (h2 : it (nxe (L l)) K n ≠ n → J (jI many) (jI longest) (jI (cor + o1 (tu (L l) n))) (jI (n + 1))) :
    ∀ (d k : Nat), k + d + 1 = K → wY_rings_48 post J (jI l) x2 (jI many) (jI longest) (jI cor) (jI n) (jI (dr (L l) (n / 25) (n % 25))) cy lys fil mad st px py lab (d + 1) (jI k) (jI (it (nxe (L l)) k n)) := by
  have hok := ok_be hC (hO l)
  have hb := of_decide_eq_true hn
  have hdr := dr_r (L l) (n / 25) (n % 25)
  have h95 : ∀ a b : Int, J (jI a) (jI b) (jI (cor + o1 (tu (L l) n))) (jI (n + 1)) → wY_rings_95 post J (jI l) x2 (jI a) (jI b) (jI cor) (jI n) (jI (dr (L l) (n / 25) (n % 25))) cy lys fil mad st px py lab := by
    intro a b hJ
    simp only [wY_rings_95]
    refine yy_fol hY hO hC hl hn ?_
    have hnx := be_nx hC (hO l) hn
    have hnb := of_decide_eq_true hnx.1
    have hdr2 := dr_r (L l) (nxe (L l) n / 25) (nxe (L l) n % 25)
    by_cases w : dr (L l) (nxe (L l) n / 25) (nxe (L l) n % 25) = dr (L l) (n / 25) (n % 25)
    · have ht : tu (L l) n = false := by unfold tu; rw [decide_eq_true w]; rfl
      rw [ht, show o1 false = 0 from rfl, Int.add_zero] at hJ
      simp (disch := omega) only [jl_0, jl_1, jl_2, jl_3, jl_4, jl_5, jl_6, jl_7, jl_8, jl_9, jl_12, jl_13, jl_16, jl_24, jl_25, jl_50, jl_168, jl_169, jl_624, jl_625, jl_1000, jI_add, jI_sub, jI_mul, jI_neg, jI_div, ie_mod, jI_leT, jI_leF, jI_ltT, jI_ltF, jI_eqT, jI_eqF, jI_cl, jI_inT, forall_eq, true_implies, false_implies, implies_true, not_true_eq_false, not_false_eq_true, true_and, and_true, b2_0, b2_z, yy_dir hY hO]
      exact hJ
    · have ht : tu (L l) n = true := by unfold tu; rw [decide_eq_false w]; rfl
      rw [ht, show o1 true = 1 from rfl] at hJ
      simp (disch := omega) only [jl_0, jl_1, jl_2, jl_3, jl_4, jl_5, jl_6, jl_7, jl_8, jl_9, jl_12, jl_13, jl_16, jl_24, jl_25, jl_50, jl_168, jl_169, jl_624, jl_625, jl_1000, jI_add, jI_sub, jI_mul, jI_neg, jI_div, ie_mod, jI_leT, jI_leF, jI_ltT, jI_ltF, jI_eqT, jI_eqF, jI_cl, jI_inT, forall_eq, true_implies, false_implies, implies_true, not_true_eq_false, not_false_eq_true, true_and, and_true, b2_0, b2_z, yy_dir hY hO]
      exact hJ
  intro d
  induction d with
  | zero =>
    intro k hk
    simp only [wY_rings_48]
    refine yy_fol hY hO hC hl (it_B hok hn k) ?_
    have e : nxe (L l) (it (nxe (L l)) k n) = it (nxe (L l)) K n := by rw [← hk]; rfl
    rw [e]
    have hr := hok.1 _ (it_B hok hn K)
    have ek : (k : Int) + 1 = K := by omega
    by_cases w : it (nxe (L l)) K n = n
    · have hJ := h1 w
      by_cases w2 : (k : Int) + 1 ≤ longest
      · rw [show max longest (K : Int) = longest by omega] at hJ
        simp (disch := omega) only [jl_0, jl_1, jl_2, jl_3, jl_4, jl_5, jl_6, jl_7, jl_8, jl_9, jl_12, jl_13, jl_16, jl_24, jl_25, jl_50, jl_168, jl_169, jl_624, jl_625, jl_1000, jI_add, jI_sub, jI_mul, jI_neg, jI_div, ie_mod, jI_leT, jI_leF, jI_ltT, jI_ltF, jI_eqT, jI_eqF, jI_cl, jI_inT, forall_eq, true_implies, false_implies, implies_true, not_true_eq_false, not_false_eq_true, true_and, and_true, b2_0, b2_z, wY_rings_77]
        exact h95 _ _ hJ
      · rw [show max longest (K : Int) = (k : Int) + 1 by omega] at hJ
        simp (disch := omega) only [jl_0, jl_1, jl_2, jl_3, jl_4, jl_5, jl_6, jl_7, jl_8, jl_9, jl_12, jl_13, jl_16, jl_24, jl_25, jl_50, jl_168, jl_169, jl_624, jl_625, jl_1000, jI_add, jI_sub, jI_mul, jI_neg, jI_div, ie_mod, jI_leT, jI_leF, jI_ltT, jI_ltF, jI_eqT, jI_eqF, jI_cl, jI_inT, forall_eq, true_implies, false_implies, implies_true, not_true_eq_false, not_false_eq_true, true_and, and_true, b2_0, b2_z, wY_rings_77]
        exact h95 _ _ hJ
    · have hJ := h2 w
      simp (disch := omega) only [jl_0, jl_1, jl_2, jl_3, jl_4, jl_5, jl_6, jl_7, jl_8, jl_9, jl_12, jl_13, jl_16, jl_24, jl_25, jl_50, jl_168, jl_169, jl_624, jl_625, jl_1000, jI_add, jI_sub, jI_mul, jI_neg, jI_div, ie_mod, jI_leT, jI_leF, jI_ltT, jI_ltF, jI_eqT, jI_eqF, jI_cl, jI_inT, forall_eq, true_implies, false_implies, implies_true, not_true_eq_false, not_false_eq_true, true_and, and_true, b2_0, b2_z, wY_rings_77]
      exact h95 _ _ hJ
  | succ d ih =>
    intro k hk
    rw [wY_rings_48]
    refine yy_fol hY hO hC hl (it_B hok hn k) ?_
    have e : nxe (L l) (it (nxe (L l)) k n) = it (nxe (L l)) (k + 1) n := rfl
    rw [e]
    have hr := hok.1 _ (it_B hok hn (k + 1))
    have hgt := hK2 (k + 1) (by omega) (by omega)
    have hnext := ih (k + 1) (by omega)
    rw [show (((k + 1 : Nat) : Int)) = (k : Int) + 1 by omega] at hnext
    simp (disch := omega) only [jl_0, jl_1, jl_2, jl_3, jl_4, jl_5, jl_6, jl_7, jl_8, jl_9, jl_12, jl_13, jl_16, jl_24, jl_25, jl_50, jl_168, jl_169, jl_624, jl_625, jl_1000, jI_add, jI_sub, jI_mul, jI_neg, jI_div, ie_mod, jI_leT, jI_leF, jI_ltT, jI_ltF, jI_eqT, jI_eqF, jI_cl, jI_inT, forall_eq, true_implies, false_implies, implies_true, not_true_eq_false, not_false_eq_true, true_and, and_true, b2_0, b2_z]
    exact hnext
theorem yy_rings {L : Int → Int → Int → Bool} (hY : RY L lys) (hO : RO L) {l w : Int} (hC : Cl (L l)) (hl : 0 ≤ l ∧ l < 6) (hw : 0 ≤ w ∧ w ≤ 2)
    (h : ∀ M : Int, MX (nxe (L l)) (fun n => Be (L l) n = true) M → 0 ≤ M → post (jI (if w = 0 then cn (fun m => Be (L l) m && ex (mn (nxe (L l)) m)) 625 else if w = 1 then M else cn (fun m => Be (L l) m && tu (L l) m) 625))) :
    wpY_rings post (cy, lys, fil, mad, st, px, py, lab) (jI l) (jI w) := by
  have hok := ok_be hC (hO l)
  simp only [wpY_rings]
  refine lj_i (fun n q s => wY_rings_11 post (jI l) (jI w) cy lys fil mad st px py lab n s.1 s.2.1 s.2.2 (jI q)) (fun q s => ∃ M : Int, s.1 = jI (cn (fun m => Be (L l) m && ex (mn (nxe (L l)) m)) q.toNat) ∧ s.2.1 = jI M ∧ s.2.2 = jI (cn (fun m => Be (L l) m && tu (L l) m) q.toNat) ∧ MX (nxe (L l)) (fun n => (Be (L l) n = true ∧ mn (nxe (L l)) n) ∧ n < q) M ∧ 0 ≤ M ∧ M ≤ 625) 0 625 (s0 := (jI 0, jI 0, jI 0)) ?_ (by omega) (fun n s hI => ?_) (fun n q s q0 q1 hI ih => ?_)
  · refine ⟨0, rfl, rfl, rfl, ⟨fun n k hn _ => ?_, Or.inl rfl⟩, by omega, by omega⟩
    have := (of_decide_eq_true hn.1.1).1
    omega
  · obtain ⟨x3, x4, x5⟩ := s
    obtain ⟨M, e1, e2, e3, hMX, hM0, hM1⟩ := hI
    dsimp only at e1 e2 e3 ⊢
    rw [e1, e2, e3]
    have hMX' : MX (nxe (L l)) (fun n => Be (L l) n = true) M := by
      refine mx_mn hok ⟨fun n k hn hp => hMX.1 n k ⟨hn, ?_⟩ hp, ?_⟩
      · exact (of_decide_eq_true hn.1).1.2
      · rcases hMX.2 with z | ⟨n, k, z1, z2, z3⟩
        · exact Or.inl z
        · exact Or.inr ⟨n, k, z1.1, z2, z3⟩
    have hh := h M hMX' hM0
    by_cases w0 : w = 0
    · rw [if_pos w0] at hh
      simp (disch := omega) only [wY_rings_11, jl_0, jl_1, jl_2, jl_3, jl_4, jl_5, jl_6, jl_7, jl_8, jl_9, jl_12, jl_13, jl_16, jl_24, jl_25, jl_50, jl_168, jl_169, jl_624, jl_625, jl_1000, jI_add, jI_sub, jI_mul, jI_neg, jI_div, ie_mod, jI_leT, jI_leF, jI_ltT, jI_ltF, jI_eqT, jI_eqF, jI_cl, jI_inT, forall_eq, true_implies, false_implies, implies_true, not_true_eq_false, not_false_eq_true, true_and, and_true, b2_0, b2_z]
      exact hh
    · by_cases w1 : w = 1
      · rw [if_neg w0, if_pos w1] at hh
        simp (disch := omega) only [wY_rings_11, jl_0, jl_1, jl_2, jl_3, jl_4, jl_5, jl_6, jl_7, jl_8, jl_9, jl_12, jl_13, jl_16, jl_24, jl_25, jl_50, jl_168, jl_169, jl_624, jl_625, jl_1000, jI_add, jI_sub, jI_mul, jI_neg, jI_div, ie_mod, jI_leT, jI_leF, jI_ltT, jI_ltF, jI_eqT, jI_eqF, jI_cl, jI_inT, forall_eq, true_implies, false_implies, implies_true, not_true_eq_false, not_false_eq_true, true_and, and_true, b2_0, b2_z]
        exact hh
      · rw [if_neg w0, if_neg w1] at hh
        simp (disch := omega) only [wY_rings_11, jl_0, jl_1, jl_2, jl_3, jl_4, jl_5, jl_6, jl_7, jl_8, jl_9, jl_12, jl_13, jl_16, jl_24, jl_25, jl_50, jl_168, jl_169, jl_624, jl_625, jl_1000, jI_add, jI_sub, jI_mul, jI_neg, jI_div, ie_mod, jI_leT, jI_leF, jI_ltT, jI_ltF, jI_eqT, jI_eqF, jI_cl, jI_inT, forall_eq, true_implies, false_implies, implies_true, not_true_eq_false, not_false_eq_true, true_and, and_true, b2_0, b2_z]
        exact hh
  · obtain ⟨x3, x4, x5⟩ := s
    obtain ⟨M, e1, e2, e3, hMX, hM0, hM1⟩ := hI
    dsimp only at e1 e2 e3 ih ⊢
    rw [e1, e2, e3]
    have c1 := cn_nn (fun m => Be (L l) m && ex (mn (nxe (L l)) m)) q.toNat
    have c2 := cn_max (fun m => Be (L l) m && ex (mn (nxe (L l)) m)) q.toNat
    have s1 := cn_s2 (fun m => Be (L l) m && ex (mn (nxe (L l)) m)) q0
    have s2 := cn_s2 (fun m => Be (L l) m && tu (L l) m) q0
    have hdr := dr_r (L l) (q / 25) (q % 25)
    by_cases hd : dr (L l) (q / 25) (q % 25) = 0
    · have hB : Be (L l) q = false := decide_eq_false (fun z => z.2 hd)
      rw [hB, Bool.false_and, show o1 false = 0 from rfl, Int.add_zero] at s1 s2
      simp (disch := omega) only [wY_rings_11, jl_0, jl_1, jl_2, jl_3, jl_4, jl_5, jl_6, jl_7, jl_8, jl_9, jl_12, jl_13, jl_16, jl_24, jl_25, jl_50, jl_168, jl_169, jl_624, jl_625, jl_1000, jI_add, jI_sub, jI_mul, jI_neg, jI_div, ie_mod, jI_leT, jI_leF, jI_ltT, jI_ltF, jI_eqT, jI_eqF, jI_cl, jI_inT, forall_eq, true_implies, false_implies, implies_true, not_true_eq_false, not_false_eq_true, true_and, and_true, b2_0, b2_z, yy_dir hY hO]
      refine ih (_, _, _) ⟨M, congrArg jI s1.symm, rfl, congrArg jI s2.symm, ⟨fun n k hn hp => hMX.1 n k ⟨hn.1, ?_⟩ hp, ?_⟩, hM0, hM1⟩
      · have : n ≠ q := fun z => by
          have := hn.1.1
          rw [z, hB] at this
          cases this
        have := hn.2
        omega
      · rcases hMX.2 with z | ⟨n, k, z1, z2, z3⟩
        · exact Or.inl z
        · exact Or.inr ⟨n, k, ⟨z1.1, by omega⟩, z2, z3⟩
    · have hB : Be (L l) q = true := decide_eq_true ⟨⟨q0, q1⟩, hd⟩
      obtain ⟨K, hK0, hK1, hK2⟩ := fst_ex hok hB
      obtain ⟨f1, f2⟩ := fst_mn hK0 hK1 hK2
      have hKle : K ≤ 625 := by
        obtain ⟨P, hP⟩ := per_ex hok hB
        have := per_le hok hB hP
        have : ¬ P < K := fun z => by
          have := hK2 P hP.1 z
          rw [hP.2.1] at this
          omega
        omega
      rw [hB, Bool.true_and] at s1 s2
      simp (disch := omega) only [wY_rings_11, jl_0, jl_1, jl_2, jl_3, jl_4, jl_5, jl_6, jl_7, jl_8, jl_9, jl_12, jl_13, jl_16, jl_24, jl_25, jl_50, jl_168, jl_169, jl_624, jl_625, jl_1000, jI_add, jI_sub, jI_mul, jI_neg, jI_div, ie_mod, jI_leT, jI_leF, jI_ltT, jI_ltF, jI_eqT, jI_eqF, jI_cl, jI_inT, forall_eq, true_implies, false_implies, implies_true, not_true_eq_false, not_false_eq_true, true_and, and_true, b2_0, b2_z, yy_dir hY hO]
      refine ⟨K, ?_⟩
      have e0 : it (nxe (L l)) 0 q = q := rfl
      have r := yy_r48 (post := post) (J := wY_rings_11 post (jI l) (jI w) cy lys fil mad st px py lab n) (x2 := jI w) (many := cn (fun m => Be (L l) m && ex (mn (nxe (L l)) m)) q.toNat) (longest := M) (cor := cn (fun m => Be (L l) m && tu (L l) m) q.toNat) (fil := fil) (mad := mad) (st := st) (px := px) (py := py) (lab := lab) (cy := cy) hY hO hC hl hB (by omega) ⟨hM0, hM1⟩ hK0 hK1 hK2 hKle (fun hr => ?_) (fun hr => ?_) (K - 1) 0 (by omega)
      · rw [e0, show K - 1 + 1 = K by omega] at r
        exact r
      · rw [ex_T (f1.mp hr), show o1 true = 1 from rfl] at s1
        refine ih (_, _, _) ⟨max M K, congrArg jI s1.symm, rfl, congrArg jI s2.symm, ⟨fun n k hn hp => ?_, ?_⟩, by omega, by omega⟩
        · by_cases z : n = q
          · subst z
            have := per_u hp (f2 hr)
            omega
          · have := hn.2
            have := hMX.1 n k ⟨hn.1, by omega⟩ hp
            omega
        · by_cases z : M ≤ K
          · exact Or.inr ⟨q, K, ⟨⟨hB, f1.mp hr⟩, by omega⟩, f2 hr, by omega⟩
          · rcases hMX.2 with y | ⟨n, k, z1, z2, z3⟩
            · omega
            · exact Or.inr ⟨n, k, ⟨z1.1, by omega⟩, z2, by omega⟩
      · rw [ex_F (fun y => hr (f1.mpr y)), show o1 false = 0 from rfl, Int.add_zero] at s1
        refine ih (_, _, _) ⟨M, congrArg jI s1.symm, rfl, congrArg jI s2.symm, ⟨fun n k hn hp => hMX.1 n k ⟨hn.1, ?_⟩ hp, ?_⟩, hM0, hM1⟩
        · have : n ≠ q := fun z => by
            have := hn.1.2
            rw [z] at this
            exact hr (f1.mpr this)
          have := hn.2
          omega
        · rcases hMX.2 with z | ⟨n, k, z1, z2, z3⟩
          · exact Or.inl z
          · exact Or.inr ⟨n, k, ⟨z1.1, by omega⟩, z2, z3⟩
end
theorem i_vc_measure {k : Nat} {u : SX} {v : SY} (I : i_Rel k u v) (hk : k + 5 ≤ 2560) (v1 : Int32) (v2 : Int32) : wpX_measure (fun r u' => wpY_measure (fun r' v' => r' = r ∧ i_Rel (k + 5) u' v') v v1 v2) u v1 v2 := by
  refine rl_el (P := fun u v => wpX_measure (fun r u' => wpY_measure (fun r' v' => r' = r ∧ i_Rel (k + 5) u' v') v v1 v2) u v1 v2) ?_ I
  intro L c xs ys bd rows drawn passed work inner crn rfr rto par cel opn rst lys fil mad st px py lab hR
  obtain ⟨l, a1, a2, rfl⟩ := jI_ex v1
  obtain ⟨w, b1, b2', rfl⟩ := jI_ex v2
  by_cases hl : 0 ≤ l ∧ l < 6
  · by_cases hw : 0 ≤ w ∧ w ≤ 8
    · by_cases w5 : w ≤ 5
      · by_cases w4 : w = 4
        · subst w4
          simp (disch := omega) only [wpX_measure, xx_lay, jl_0, jl_1, jl_2, jl_3, jl_4, jl_5, jl_6, jl_7, jl_8, jl_9, jl_12, jl_13, jl_16, jl_24, jl_25, jl_50, jl_168, jl_169, jl_624, jl_625, jl_1000, jI_add, jI_sub, jI_mul, jI_neg, jI_div, ie_mod, jI_leT, jI_leF, jI_ltT, jI_ltF, jI_eqT, jI_eqF, jI_cl, jI_inT, forall_eq, true_implies, false_implies, implies_true, not_true_eq_false, not_false_eq_true, true_and, and_true, b2_0, b2_z]
          refine xx_pieces hR.1 hR.2.2.1 (T := TT (L l) false) (tt_o _ _) hl (fz := true) ⟨fun _ => rfl, fun _ => rfl⟩ (fun j j0 j1 => (tt_w hR.2.2.1 l j ⟨j0, j1⟩).1) (fun n F G jr st' rn rt rfr' rto' par' cel' opn' rst' hF => ?_)
          dsimp only
          simp (disch := omega) only [wpY_measure, wY_measure_52, yy_lay, jl_0, jl_1, jl_2, jl_3, jl_4, jl_5, jl_6, jl_7, jl_8, jl_9, jl_12, jl_13, jl_16, jl_24, jl_25, jl_50, jl_168, jl_169, jl_624, jl_625, jl_1000, jI_add, jI_sub, jI_mul, jI_neg, jI_div, ie_mod, jI_leT, jI_leF, jI_ltT, jI_ltF, jI_eqT, jI_eqF, jI_cl, jI_inT, forall_eq, true_implies, false_implies, implies_true, not_true_eq_false, not_false_eq_true, true_and, and_true, b2_0, b2_z]
          refine yy_pieces hR.2.1 hl (hR.2.2.2.1 l) false (fun lb lab' hYF => ?_)
          dsimp only
          refine yy_cntp hYF ?_
          refine ⟨congrArg jI ?_, rl_mk hR⟩
          rw [pc_cnt hF hYF (tt_o _ _) true]
          refine cn_c 625 (fun m _ _ => ?_)
          rw [Bool.true_or, Bool.and_true]
        · by_cases w5' : w = 5
          · subst w5'
            simp (disch := omega) only [wpX_measure, xx_lay, jl_0, jl_1, jl_2, jl_3, jl_4, jl_5, jl_6, jl_7, jl_8, jl_9, jl_12, jl_13, jl_16, jl_24, jl_25, jl_50, jl_168, jl_169, jl_624, jl_625, jl_1000, jI_add, jI_sub, jI_mul, jI_neg, jI_div, ie_mod, jI_leT, jI_leF, jI_ltT, jI_ltF, jI_eqT, jI_eqF, jI_cl, jI_inT, forall_eq, true_implies, false_implies, implies_true, not_true_eq_false, not_false_eq_true, true_and, and_true, b2_0, b2_z]
            refine xx_pieces hR.1 hR.2.2.1 (T := TT (L l) true) (tt_o _ _) hl (fz := false) ⟨fun z => absurd z (by decide), fun z => by cases z⟩ (fun j j0 j1 => (tt_w hR.2.2.1 l j ⟨j0, j1⟩).2) (fun n F G jr st' rn rt rfr' rto' par' cel' opn' rst' hF => ?_)
            dsimp only
            simp (disch := omega) only [wpY_measure, wY_measure_52, yy_lay, jl_0, jl_1, jl_2, jl_3, jl_4, jl_5, jl_6, jl_7, jl_8, jl_9, jl_12, jl_13, jl_16, jl_24, jl_25, jl_50, jl_168, jl_169, jl_624, jl_625, jl_1000, jI_add, jI_sub, jI_mul, jI_neg, jI_div, ie_mod, jI_leT, jI_leF, jI_ltT, jI_ltF, jI_eqT, jI_eqF, jI_cl, jI_inT, forall_eq, true_implies, false_implies, implies_true, not_true_eq_false, not_false_eq_true, true_and, and_true, b2_0, b2_z]
            refine yy_pieces hR.2.1 hl (hR.2.2.2.1 l) true (fun lb lab' hYF => ?_)
            dsimp only
            refine yy_cnth hYF ?_
            refine ⟨congrArg jI ?_, rl_mk hR⟩
            rw [pc_cnt hF hYF (tt_o _ _) false]
            refine cn_c 625 (fun m _ _ => ?_)
            rw [Bool.false_or]
          · simp (disch := omega) only [wpX_measure, xx_lay, jl_0, jl_1, jl_2, jl_3, jl_4, jl_5, jl_6, jl_7, jl_8, jl_9, jl_12, jl_13, jl_16, jl_24, jl_25, jl_50, jl_168, jl_169, jl_624, jl_625, jl_1000, jI_add, jI_sub, jI_mul, jI_neg, jI_div, ie_mod, jI_leT, jI_leF, jI_ltT, jI_ltF, jI_eqT, jI_eqF, jI_cl, jI_inT, forall_eq, true_implies, false_implies, implies_true, not_true_eq_false, not_false_eq_true, true_and, and_true, b2_0, b2_z]
            refine xx_m61 hR.1 hR.2.2.1 hl (by omega) ?_
            simp (disch := omega) only [wpY_measure, yy_lay, jl_0, jl_1, jl_2, jl_3, jl_4, jl_5, jl_6, jl_7, jl_8, jl_9, jl_12, jl_13, jl_16, jl_24, jl_25, jl_50, jl_168, jl_169, jl_624, jl_625, jl_1000, jI_add, jI_sub, jI_mul, jI_neg, jI_div, ie_mod, jI_leT, jI_leF, jI_ltT, jI_ltF, jI_eqT, jI_eqF, jI_cl, jI_inT, forall_eq, true_implies, false_implies, implies_true, not_true_eq_false, not_false_eq_true, true_and, and_true, b2_0, b2_z]
            refine yy_m77 hR.2.1 hR.2.2.1 hl (by omega) ?_
            refine ⟨congrArg jI ?_, rl_mk hR⟩
            exact (pm_sum (hR.2.2.1 l) w).symm
      · simp (disch := omega) only [wpX_measure, xx_lay, jl_0, jl_1, jl_2, jl_3, jl_4, jl_5, jl_6, jl_7, jl_8, jl_9, jl_12, jl_13, jl_16, jl_24, jl_25, jl_50, jl_168, jl_169, jl_624, jl_625, jl_1000, jI_add, jI_sub, jI_mul, jI_neg, jI_div, ie_mod, jI_leT, jI_leF, jI_ltT, jI_ltF, jI_eqT, jI_eqF, jI_cl, jI_inT, forall_eq, true_implies, false_implies, implies_true, not_true_eq_false, not_false_eq_true, true_and, and_true, b2_0, b2_z]
        refine xx_rings hR.1 hR.2.2.1 (hR.2.2.2.1 l) hl (by omega) (fun M b work' hM hM0 => ?_)
        dsimp only
        simp (disch := omega) only [wpY_measure, yy_lay, jl_0, jl_1, jl_2, jl_3, jl_4, jl_5, jl_6, jl_7, jl_8, jl_9, jl_12, jl_13, jl_16, jl_24, jl_25, jl_50, jl_168, jl_169, jl_624, jl_625, jl_1000, jI_add, jI_sub, jI_mul, jI_neg, jI_div, ie_mod, jI_leT, jI_leF, jI_ltT, jI_ltF, jI_eqT, jI_eqF, jI_cl, jI_inT, forall_eq, true_implies, false_implies, implies_true, not_true_eq_false, not_false_eq_true, true_and, and_true, b2_0, b2_z]
        refine yy_rings hR.2.1 hR.2.2.1 (hR.2.2.2.1 l) hl (by omega) (fun M' hM' hM0' => ?_)
        refine ⟨congrArg jI ?_, rl_mk hR⟩
        rw [mx_u hM' hM hM0' hM0]
        by_cases z6 : w = 6
        · rw [if_pos z6, if_pos (by omega)]
        · by_cases z7 : w = 7
          · rw [if_neg z6, if_pos z7, if_neg (by omega), if_pos (by omega)]
          · rw [if_neg z6, if_neg z7, if_neg (by omega), if_neg (by omega)]
    · by_cases h0 : w < 0
      · simp (disch := omega) only [wpX_measure, wpY_measure, xx_lay, yy_lay, jl_0, jl_1, jl_2, jl_3, jl_4, jl_5, jl_6, jl_7, jl_8, jl_9, jl_12, jl_13, jl_16, jl_24, jl_25, jl_50, jl_168, jl_169, jl_624, jl_625, jl_1000, jI_add, jI_sub, jI_mul, jI_neg, jI_div, ie_mod, jI_leT, jI_leF, jI_ltT, jI_ltF, jI_eqT, jI_eqF, jI_cl, jI_inT, forall_eq, true_implies, false_implies, implies_true, not_true_eq_false, not_false_eq_true, true_and, and_true, b2_0, b2_z]
        exact rl_mk hR
      · simp (disch := omega) only [wpX_measure, wpY_measure, xx_lay, yy_lay, jl_0, jl_1, jl_2, jl_3, jl_4, jl_5, jl_6, jl_7, jl_8, jl_9, jl_12, jl_13, jl_16, jl_24, jl_25, jl_50, jl_168, jl_169, jl_624, jl_625, jl_1000, jI_add, jI_sub, jI_mul, jI_neg, jI_div, ie_mod, jI_leT, jI_leF, jI_ltT, jI_ltF, jI_eqT, jI_eqF, jI_cl, jI_inT, forall_eq, true_implies, false_implies, implies_true, not_true_eq_false, not_false_eq_true, true_and, and_true, b2_0, b2_z]
        exact rl_mk hR
  · simp (disch := omega) only [wpX_measure, wpY_measure, xx_layF, yy_layF, jl_0, jl_1, jl_2, jl_3, jl_4, jl_5, jl_6, jl_7, jl_8, jl_9, jl_12, jl_13, jl_16, jl_24, jl_25, jl_50, jl_168, jl_169, jl_624, jl_625, jl_1000, jI_add, jI_sub, jI_mul, jI_neg, jI_div, ie_mod, jI_leT, jI_leF, jI_ltT, jI_ltF, jI_eqT, jI_eqF, jI_cl, jI_inT, forall_eq, true_implies, false_implies, implies_true, not_true_eq_false, not_false_eq_true, true_and, and_true, b2_0, b2_z]
    exact rl_mk hR
end
