section
/-! the checker's primitives: raw operations on Nat, so that the kernel computes them at once -/
noncomputable def qm_if (c a b : Bool) : Bool := @Bool.rec (fun _ => Bool) b a c
noncomputable def qm_fo (x : Nat) (f : Nat → Bool) : Bool := @Nat.rec (fun _ => Bool) (f 0) (fun n _ => f (Nat.succ n)) x
def qm_tb (s v : Nat) : Bool := Nat.beq (Nat.land (Nat.shiftRight s v) 1) 1
def qm_get (A i : Nat) : Nat := Nat.land (Nat.shiftRight A (Nat.mul 4 i)) 15
def qm_set (A i x : Nat) : Nat := Nat.xor A (Nat.shiftLeft (Nat.xor (qm_get A i) x) (Nat.mul 4 i))
def qm_row (A i : Nat) : Nat := Nat.land (Nat.shiftRight A (Nat.mul 10 i)) 1023
def qm_rset (A i x : Nat) : Nat := Nat.xor A (Nat.shiftLeft (Nat.xor (qm_row A i) x) (Nat.mul 10 i))
def qm_bit (v : Nat) : Nat := Nat.shiftLeft 1 v
def qm_del (s t : Nat) : Nat := Nat.xor s (Nat.land s t)
/-- a vertex or nobody -/
def qm_vI (k : Nat) : Int32 := if k < 10 then nI k else -1
/-- a vertex or none -/
def qm_wI (k : Nat) : Int32 := if k < 10 then nI k else -2

theorem qm_if_e {c a b : Bool} (h : qm_if c a b = true) : (c = true ∧ a = true) ∨ (c = false ∧ b = true) := by
  cases c
  · exact Or.inr ⟨rfl, h⟩
  · exact Or.inl ⟨rfl, h⟩
theorem qm_ck {c a : Bool} (h : qm_if c a false = true) : c = true ∧ a = true := by
  cases c
  · exact absurd (show false = true from h) (by decide)
  · exact ⟨rfl, h⟩
theorem qm_fo_e {x : Nat} {f : Nat → Bool} (h : qm_fo x f = true) : f x = true := by
  cases x
  · exact h
  · exact h
theorem qm_br {c A B : Prop} {b x y : Bool} (hb : b = true ↔ c) (h : qm_if b x y = true) (f : x = true → b = true → A) (g : y = true → b = false → B) : (c → A) ∧ (¬ c → B) := by
  rcases qm_if_e h with ⟨h1, h2⟩ | ⟨h1, h2⟩
  · exact ⟨fun _ => f h2 h1, fun z => absurd (hb.mp h1) z⟩
  · refine ⟨fun z => ?_, fun _ => g h2 h1⟩
    have t := hb.mpr z
    rw [h1] at t
    exact absurd t (by decide)
theorem qm_brn {c A B : Prop} {b x y : Bool} (hb : b = true ↔ ¬ c) (h : qm_if b x y = true) (f : x = true → b = true → B) (g : y = true → b = false → A) : (c → A) ∧ (¬ c → B) := by
  rcases qm_if_e h with ⟨h1, h2⟩ | ⟨h1, h2⟩
  · exact ⟨fun z => absurd z (hb.mp h1), fun _ => f h2 h1⟩
  · refine ⟨fun _ => g h2 h1, fun z => ?_⟩
    have t := hb.mpr z
    rw [h1] at t
    exact absurd t (by decide)
theorem qm_le {a b : Nat} (h : Nat.ble a b = true) : a ≤ b := Nat.le_of_ble_eq_true h
theorem qm_9 {a : Nat} (h : Nat.ble a 9 = true) : a < 10 := Nat.lt_succ_of_le (Nat.le_of_ble_eq_true h)
theorem qm_n9 {a : Nat} (h : Nat.ble a 9 = false) : ¬ a < 10 := by
  intro z
  have t : Nat.ble a 9 = true := Nat.ble_eq_true_of_le (Nat.le_of_lt_succ z)
  rw [h] at t
  exact absurd t (by decide)
theorem qm_nle {a b : Nat} (h : Nat.ble a b = false) : b < a := by
  rcases Nat.lt_or_ge b a with z | z
  · exact z
  · have t : Nat.ble a b = true := Nat.ble_eq_true_of_le z
    rw [h] at t
    exact absurd t (by decide)

/-! digits -/
theorem qm_dig {k : Nat} (A i j : Nat) {y : Nat} (hy : y < 2 ^ k) : ((A ^^^ (((A >>> (k * i)) % 2 ^ k ^^^ y) <<< (k * i))) >>> (k * j)) % 2 ^ k = if j = i then y else (A >>> (k * j)) % 2 ^ k := by
  have yb : ∀ b, k ≤ b → y.testBit b = false := fun b hb => Nat.testBit_lt_two_pow (Nat.lt_of_lt_of_le hy (Nat.pow_le_pow_right (by decide) hb))
  apply Nat.eq_of_testBit_eq
  intro b
  rw [Nat.testBit_mod_two_pow, Nat.testBit_shiftRight, Nat.testBit_xor, Nat.testBit_shiftLeft, Nat.testBit_xor, Nat.testBit_mod_two_pow, Nat.testBit_shiftRight]
  by_cases hb : b < k
  · by_cases e : j = i
    · subst e
      rw [if_pos rfl, decide_eq_true hb, decide_eq_true (show k * j + b ≥ k * j by omega), show k * j + b - k * j = b by omega, decide_eq_true hb]
      cases A.testBit (k * j + b) <;> cases y.testBit b <;> rfl
    · rw [if_neg e, Nat.testBit_mod_two_pow, Nat.testBit_shiftRight, decide_eq_true hb]
      rcases Nat.lt_or_ge j i with z | z
      · have t : k * (j + 1) ≤ k * i := Nat.mul_le_mul_left k z
        rw [Nat.mul_succ] at t
        rw [decide_eq_false (show ¬ k * j + b ≥ k * i by omega)]
        cases A.testBit (k * j + b) <;> rfl
      · have t : k * (i + 1) ≤ k * j := Nat.mul_le_mul_left k (by omega)
        rw [Nat.mul_succ] at t
        rw [decide_eq_true (show k * j + b ≥ k * i by omega), decide_eq_false (show ¬ k * j + b - k * i < k by omega), yb (k * j + b - k * i) (by omega)]
        cases A.testBit (k * j + b) <;> rfl
  · rw [decide_eq_false hb]
    by_cases e : j = i
    · rw [if_pos e, yb b (by omega)]
      rfl
    · rw [if_neg e, Nat.testBit_mod_two_pow, decide_eq_false hb]
      rfl
theorem qm_get_eq (A i : Nat) : qm_get A i = (A >>> (4 * i)) % 2 ^ 4 := Nat.and_two_pow_sub_one_eq_mod (A >>> (4 * i)) 4
theorem qm_row_eq (A i : Nat) : qm_row A i = (A >>> (10 * i)) % 2 ^ 10 := Nat.and_two_pow_sub_one_eq_mod (A >>> (10 * i)) 10
theorem qm_get_lt (A i : Nat) : qm_get A i < 16 := by
  rw [qm_get_eq]
  exact Nat.mod_lt _ (by decide)
theorem qm_row_lt (A i : Nat) : qm_row A i < 1024 := by
  rw [qm_row_eq]
  exact Nat.mod_lt _ (by decide)
theorem qm_get_set (A i j : Nat) {x : Nat} (hx : x < 16) : qm_get (qm_set A i x) j = if j = i then x else qm_get A j := by
  have e : qm_set A i x = A ^^^ (((A >>> (4 * i)) % 2 ^ 4 ^^^ x) <<< (4 * i)) := by
    rw [← qm_get_eq]
    rfl
  rw [qm_get_eq, e, qm_dig (k := 4) A i j (show x < 2 ^ 4 from hx), ← qm_get_eq]
theorem qm_row_set (A i j : Nat) {x : Nat} (hx : x < 1024) : qm_row (qm_rset A i x) j = if j = i then x else qm_row A j := by
  have e : qm_rset A i x = A ^^^ (((A >>> (10 * i)) % 2 ^ 10 ^^^ x) <<< (10 * i)) := by
    rw [← qm_row_eq]
    rfl
  rw [qm_row_eq, e, qm_dig (k := 10) A i j (show x < 2 ^ 10 from hx), ← qm_row_eq]

/-! ints and bits -/
theorem qm_sh : ∀ n, n < 32 → ((nI n &&& 31).toBitVec.smod 32).toNat = n := by decide +kernel
theorem qm_land1 (t : Nat) : Nat.land t 1 = t % 2 := Nat.and_one_is_mod t
theorem qm_bv (s : Nat) {v : Nat} (hv : v < 31) : (nI s >>> (nI v &&& 31)) &&& 1 = nI (Nat.land (Nat.shiftRight s v) 1) := by
  apply Int32.toBitVec_inj.1
  rw [Int32.toBitVec_and, Int32.toBitVec_shiftRight]
  show ((BitVec.ofNat 32 s).sshiftRight ((nI v &&& 31).toBitVec.smod 32).toNat) &&& 1#32 = BitVec.ofNat 32 ((s >>> v) &&& 1)
  rw [qm_sh v (by omega)]
  apply BitVec.eq_of_getLsbD_eq
  intro i hi
  rw [BitVec.getLsbD_and, BitVec.getLsbD_sshiftRight, BitVec.getLsbD_ofNat, BitVec.getLsbD_ofNat, BitVec.getLsbD_ofNat, Nat.testBit_and, Nat.testBit_shiftRight]
  cases i with
  | zero =>
    rw [if_pos (show v + 0 < 32 by omega), decide_eq_true (show v + 0 < 32 by omega)]
    simp
  | succ i => simp [Nat.testBit_add_one]
theorem qm_tb_iff (s : Nat) {v : Nat} (hv : v < 31) : ((nI s >>> (nI v &&& 31)) &&& 1) = 1 ↔ qm_tb s v = true := by
  rw [qm_bv s hv]
  unfold qm_tb
  rw [qm_land1]
  rcases Nat.mod_two_eq_zero_or_one (Nat.shiftRight s v) with e | e
  · rw [e]
    decide
  · rw [e]
    decide
theorem qm_or (a b : Nat) : nI a ||| nI b = nI (Nat.lor a b) := by
  apply Int32.toBitVec_inj.1
  show BitVec.ofNat 32 a ||| BitVec.ofNat 32 b = BitVec.ofNat 32 (a ||| b)
  apply BitVec.eq_of_getLsbD_eq
  intro i hi
  simp [hi]
theorem qm_and (a b : Nat) : nI a &&& nI b = nI (Nat.land a b) := by
  apply Int32.toBitVec_inj.1
  show BitVec.ofNat 32 a &&& BitVec.ofNat 32 b = BitVec.ofNat 32 (a &&& b)
  apply BitVec.eq_of_getLsbD_eq
  intro i hi
  simp [hi]
theorem qm_m1 : (-1 : Int32).toBitVec = BitVec.allOnes 32 := by decide
theorem qm_dl (a b : Nat) : nI a &&& (nI b ^^^ (-1)) = nI (qm_del a b) := by
  apply Int32.toBitVec_inj.1
  show BitVec.ofNat 32 a &&& (BitVec.ofNat 32 b ^^^ (-1 : Int32).toBitVec) = BitVec.ofNat 32 (a ^^^ (a &&& b))
  rw [qm_m1]
  apply BitVec.eq_of_getLsbD_eq
  intro i hi
  rw [BitVec.getLsbD_and, BitVec.getLsbD_xor, BitVec.getLsbD_allOnes, BitVec.getLsbD_ofNat, BitVec.getLsbD_ofNat, BitVec.getLsbD_ofNat, Nat.testBit_xor, Nat.testBit_and, decide_eq_true hi]
  cases a.testBit i <;> cases b.testBit i <;> rfl
theorem qm_one : ∀ v, v < 10 → (1 : Int32) <<< (nI v &&& 31) = nI (qm_bit v) := by decide +kernel
theorem qm_bit_lt : ∀ v, v < 10 → qm_bit v < 1024 := by decide +kernel
theorem qm_lor_lt {a b : Nat} (ha : a < 1024) (hb : b < 1024) : Nat.lor a b < 1024 := Nat.or_lt_two_pow (n := 10) ha hb
theorem qm_land_lt {a b : Nat} (ha : a < 1024) : Nat.land a b < 1024 := Nat.lt_of_le_of_lt Nat.and_le_left ha
theorem qm_del_lt {a b : Nat} (ha : a < 1024) : qm_del a b < 1024 := Nat.xor_lt_two_pow (n := 10) ha (qm_land_lt ha)
theorem qm_tb_t (s v : Nat) : qm_tb s v = s.testBit v := by
  unfold qm_tb
  rw [qm_land1, Nat.testBit_eq_decide_div_mod_eq]
  show Nat.beq ((s >>> v) % 2) 1 = _
  rw [Nat.shiftRight_eq_div_pow]
  rcases Nat.mod_two_eq_zero_or_one (s / 2 ^ v) with e | e
  · rw [e]
    rfl
  · rw [e]
    rfl

/-! vertices -/
theorem qm_vI_n {k : Nat} (h : k < 10) : qm_vI k = nI k := if_pos h
theorem qm_vI_m {k : Nat} (h : ¬ k < 10) : qm_vI k = -1 := if_neg h
theorem qm_vI_in {k : Nat} (h : k < 10) : vp_in (qm_vI k) 10 := by
  rw [qm_vI_n h]
  exact vp_in_nI h (by decide)
theorem qm_vI_c {k : Nat} (h : k < 10) : (qm_vI k).toNatClampNeg = k := by
  rw [qm_vI_n h]
  exact nI_clamp (by omega)
theorem qm_vI_pos {k : Nat} (h : k < 10) : ¬ qm_vI k < 0 := by
  rw [qm_vI_n h]
  exact nI_pos (by omega)
theorem qm_vI_ge {k : Nat} (h : k < 10) : 0 ≤ qm_vI k := by
  rw [qm_vI_n h]
  exact nI_pos' (by omega)
theorem qm_vI_neg {k : Nat} (h : ¬ k < 10) : qm_vI k < 0 := by
  rw [qm_vI_m h]
  decide
theorem qm_vI_nge {k : Nat} (h : ¬ k < 10) : ¬ 0 ≤ qm_vI k := by
  rw [qm_vI_m h]
  decide
theorem qm_vI_lt0 (k : Nat) : Nat.ble k 9 = true ↔ ¬ qm_vI k < 0 := by
  constructor
  · intro h
    exact qm_vI_pos (qm_9 h)
  · intro h
    cases e : Nat.ble k 9
    · exact absurd (qm_vI_neg (qm_n9 e)) h
    · rfl
theorem qm_vI_0le (k : Nat) : Nat.ble k 9 = true ↔ 0 ≤ qm_vI k := by
  constructor
  · intro h
    exact qm_vI_ge (qm_9 h)
  · intro h
    cases e : Nat.ble k 9
    · exact absurd h (qm_vI_nge (qm_n9 e))
    · rfl
theorem qm_beq {a b : Nat} : Nat.beq a b = true ↔ a = b := ⟨Nat.eq_of_beq_eq_true, fun h => by rw [h]; exact Nat.beq_refl b⟩
theorem qm_neg1 : ∀ k, k < 10 → ¬ nI k = -1 := by decide +kernel
/-- two vertices are the same, the second being one -/
theorem qm_vI_eq {a b : Nat} (hb : b < 10) : Nat.beq a b = true ↔ qm_vI a = qm_vI b := by
  rw [qm_beq, qm_vI_n hb]
  constructor
  · intro h
    rw [h, qm_vI_n hb]
  · intro h
    by_cases ha : a < 10
    · rw [qm_vI_n ha] at h
      exact (nI_eq (by omega) (by omega)).mp h
    · rw [qm_vI_m ha] at h
      exact absurd h.symm (qm_neg1 b hb)
theorem qm_vI_eq' {a b : Nat} (ha : a < 10) : Nat.beq a b = true ↔ qm_vI a = qm_vI b := by
  rw [eq_comm (a := qm_vI a), ← qm_vI_eq ha, qm_beq, qm_beq]
  exact eq_comm

/-! arrays: the digits of a number, of n places known -/
def qm_arr (a : Nat → Int32) (A n : Nat) : Prop := ∀ i, i < n → a i = qm_vI (qm_get A i)
def qm_rows (a : Nat → Int32) (E : Nat) : Prop := ∀ i, i < 10 → a i = nI (qm_row E i)
theorem qm_arr_up {a : Nat → Int32} {A n i x : Nat} (h : qm_arr a A n) (hx : x < 16) : qm_arr (upd a i (qm_vI x)) (qm_set A i x) n := by
  intro j hj
  rw [qm_get_set A i j hx]
  by_cases e : j = i
  · rw [if_pos e, e, pk_us]
  · rw [if_neg e, pk_un e]
    exact h j hj
theorem qm_arr_push {a : Nat → Int32} {A n x : Nat} (h : qm_arr a A n) (hx : x < 16) : qm_arr (upd a n (qm_vI x)) (qm_set A n x) (n + 1) := by
  intro j hj
  rw [qm_get_set A n j hx]
  by_cases e : j = n
  · rw [if_pos e, e, pk_us]
  · rw [if_neg e, pk_un e]
    exact h j (by omega)
theorem qm_rows_up {a : Nat → Int32} {E i x : Nat} (h : qm_rows a E) (hx : x < 1024) : qm_rows (upd a i (nI x)) (qm_rset E i x) := by
  intro j hj
  rw [qm_row_set E i j hx]
  by_cases e : j = i
  · rw [if_pos e, e, pk_us]
  · rw [if_neg e, pk_un e]
    exact h j hj
theorem qm_rd {a : Nat → Int32} {A i : Nat} (h : qm_arr a A 10) (hi : i < 10) : a (qm_vI i).toNatClampNeg = qm_vI (qm_get A i) := by
  rw [qm_vI_c hi]
  exact h i hi
theorem qm_rdn {a : Nat → Int32} {A i : Nat} (h : qm_arr a A 10) (hi : i < 10) : a (nI i).toNatClampNeg = qm_vI (qm_get A i) := by
  rw [nI_clamp (by omega)]
  exact h i hi
theorem qm_rr {a : Nat → Int32} {E i : Nat} (h : qm_rows a E) (hi : i < 10) : a (qm_vI i).toNatClampNeg = nI (qm_row E i) := by
  rw [qm_vI_c hi]
  exact h i hi
theorem qm_rrn {a : Nat → Int32} {E i : Nat} (h : qm_rows a E) (hi : i < 10) : a (nI i).toNatClampNeg = nI (qm_row E i) := by
  rw [nI_clamp (by omega)]
  exact h i hi

/-! the call 'in' -/
theorem qm_in_b {A B : Prop} {x y : Bool} {s v : Int32} {S V : Nat} (hs : s = nI S) (hv : v = qm_vI V) (hV : V < 10) (h : qm_if (qm_tb S V) x y = true) (hx : x = true → B) (hy : y = true → A) : wpX_in (fun r => (r = 0 → A) ∧ (¬ r = 0 → B)) () s v := by
  subst hs hv
  rw [qm_vI_n hV]
  unfold wpX_in
  refine qm_br ((qm_tb_iff S (show V < 31 by omega)).symm) h (fun h _ => ?_) (fun h _ => ?_)
  · exact ⟨fun z => absurd z (by decide), fun _ => hx h⟩
  · exact ⟨fun _ => hy h, fun z => absurd rfl z⟩
theorem qm_in_n {A B : Prop} {x y : Bool} {s : Int32} {S V : Nat} (hs : s = nI S) (hV : V < 10) (h : qm_if (qm_tb S V) x y = true) (hx : x = true → B) (hy : y = true → A) : wpX_in (fun r => (r = 0 → A) ∧ (¬ r = 0 → B)) () s (nI V) :=
  qm_in_b hs (qm_vI_n hV).symm hV h hx hy
end
section
/-! meetEven -/
noncomputable def qm_meet (EV W Q v : Nat) (k : Nat → Nat → Nat → Bool) : Bool :=
  qm_if (qm_tb EV v) (k EV W Q)
    (qm_if (Nat.ble W 9) (qm_fo (Nat.lor EV (qm_bit v)) fun EV' => qm_fo (qm_set Q W v) fun Q' => qm_fo (Nat.succ W) fun W' => k EV' W' Q') false)
theorem qm_meet_ok {post : St2 → Prop} {on am bA bB mk sh : Int32} {a1 a2 a3 a4 a5 a6 : Nat → Int32} {EV W Q v : Nat} {p : Int32} {k : Nat → Nat → Nat → Bool} (hp : p = qm_vI v) (hv : v < 10) (hW : W ≤ 10) (hQ : qm_arr a5 Q W) (h : qm_meet EV W Q v k = true)
    (H : ∀ EV' W' Q' a5', W' ≤ 10 → qm_arr a5' Q' W' → k EV' W' Q' = true → post (on, am, bA, bB, nI EV', nI W', mk, sh, a1, a2, a3, a4, a5', a6)) :
    wpX_meetEven post (on, am, bA, bB, nI EV, nI W, mk, sh, a1, a2, a3, a4, a5, a6) p := by
  subst hp
  unfold wpX_meetEven
  dsimp only
  refine qm_in_b rfl rfl hv h (fun h => H _ _ _ _ hW hQ h) (fun h => ?_)
  obtain ⟨h1, h⟩ := qm_ck h
  have hW' : W < 10 := qm_9 h1
  have h := qm_fo_e h
  have h := qm_fo_e h
  have h := qm_fo_e h
  have e1 : nI EV ||| ((1 : Int32) <<< (qm_vI v &&& 31)) = nI (Nat.lor EV (qm_bit v)) := by rw [qm_vI_n hv, qm_one v hv, qm_or]
  have e2 : upd a5 (nI W).toNatClampNeg (qm_vI v) = upd a5 W (qm_vI v) := by rw [nI_clamp (by omega)]
  exact nm_r e1 ⟨pk_in W 10 hW', nm_r e2 (nm_r (nI_1 W) (H _ _ _ _ hW' (qm_arr_push hQ (by omega)) h))⟩

/-! usable: a graph G in which an edge is there if it is usable -/
def qm_ib (s : Int32) (w : Nat) : Prop := ((s >>> (nI w &&& 31)) &&& 1) = 1
def qm_gr (a1 : Nat → Int32) (am bA bB : Int32) (G : Nat) : Prop := ∀ v w, v < 10 → w < 10 → (qm_tb (qm_row G v) w = true ↔ (¬ (nI v = bA ∧ nI w = bB) ∧ ¬ (nI v = bB ∧ nI w = bA) ∧ qm_ib (a1 v) w ∧ qm_ib am w))
theorem qm_us {A B : Prop} {x y : Bool} {on am bA bB ev wt mk sh : Int32} {a1 a2 a3 a4 a5 a6 : Nat → Int32} {G v w : Nat} (hG : qm_gr a1 am bA bB G) (hv : v < 10) (hw : w < 10) (h : qm_if (qm_tb (qm_row G v) w) x y = true) (hx : x = true → B) (hy : y = true → A) :
    wpX_usable (fun r => (r = 0 → A) ∧ (¬ r = 0 → B)) (on, am, bA, bB, ev, wt, mk, sh, a1, a2, a3, a4, a5, a6) (qm_vI v) (nI w) := by
  rw [qm_vI_n hv]
  have i := hG v w hv hw
  have P0 : A → ((0 : Int32) = 0 → A) ∧ (¬ (0 : Int32) = 0 → B) := fun a => ⟨fun _ => a, fun z => absurd rfl z⟩
  have P1 : B → ((1 : Int32) = 0 → A) ∧ (¬ (1 : Int32) = 0 → B) := fun b => ⟨fun z => absurd z (by decide), fun _ => b⟩
  have Q : (¬ (nI v = bA ∧ nI w = bB) ∧ ¬ (nI v = bB ∧ nI w = bA) ∧ qm_ib (a1 v) w ∧ qm_ib am w → B) ∧ (¬ (¬ (nI v = bA ∧ nI w = bB) ∧ ¬ (nI v = bB ∧ nI w = bA) ∧ qm_ib (a1 v) w ∧ qm_ib am w) → A) :=
    qm_br i h (fun h _ => hx h) (fun h _ => hy h)
  have U34 : ¬ (nI v = bA ∧ nI w = bB) → ¬ (nI v = bB ∧ nI w = bA) → wX_usable_34 (fun r => (r = 0 → A) ∧ (¬ r = 0 → B)) (nI v) (nI w) on am bA bB ev wt mk sh a1 a2 a3 a4 a5 a6 := by
    intro c1 c2
    unfold wX_usable_34
    rw [nI_clamp (show v < 2 ^ 31 by omega)]
    refine ⟨pk_in v 10 hv, ?_⟩
    unfold wpX_in
    refine br_c (fun c3 => ⟨fun z => absurd z (by decide), fun _ => ?_⟩) (fun c3 => ⟨fun _ => P0 (Q.2 (fun t => c3 t.2.2.1)), fun z => absurd rfl z⟩)
    exact br_c (fun c4 => ⟨fun z => absurd z (by decide), fun _ => P1 (Q.1 ⟨c1, c2, c3, c4⟩)⟩) (fun c4 => ⟨fun _ => P0 (Q.2 (fun t => c4 t.2.2.2)), fun z => absurd rfl z⟩)
  have U16 : ¬ (nI v = bA ∧ nI w = bB) → wX_usable_16 (fun r => (r = 0 → A) ∧ (¬ r = 0 → B)) (nI v) (nI w) on am bA bB ev wt mk sh a1 a2 a3 a4 a5 a6 := by
    intro c1
    unfold wX_usable_16
    exact br_c (fun d1 => br_c (fun d2 => P0 (Q.2 (fun t => t.2.1 ⟨d1, d2⟩))) (fun d2 => U34 c1 (fun t => d2 t.2))) (fun d1 => U34 c1 (fun t => d1 t.1))
  unfold wpX_usable
  dsimp only
  exact br_c (fun d1 => br_c (fun d2 => P0 (Q.2 (fun t => t.1 ⟨d1, d2⟩))) (fun d2 => U16 (fun t => d2 t.2))) (fun d1 => U16 (fun t => d1 t.1))

/-! commonBase -/
noncomputable def qm_cb2 (M B P seen : Nat) (k : Nat → Bool) : Nat → Nat → Bool :=
  @Nat.rec (fun _ => Nat → Bool) (fun y => k y)
    (fun _ ih y => qm_if (Nat.ble y 9) (qm_if (qm_tb seen y) (k y) (qm_fo (qm_get M y) fun m => qm_if (Nat.ble m 9) (qm_fo (qm_get P m) fun p => qm_if (Nat.ble p 9) (qm_fo (qm_get B p) ih) false) false)) false)
noncomputable def qm_cb1 (M B P w : Nat) (k : Nat → Bool) : Nat → Nat → Nat → Bool :=
  @Nat.rec (fun _ => Nat → Nat → Bool) (fun seen _ => qm_fo (qm_get B w) (qm_cb2 M B P seen k 10))
    (fun _ ih seen x => qm_if (Nat.ble x 9)
      (qm_fo (qm_get B x) fun y => qm_if (Nat.ble y 9) (qm_fo (Nat.lor seen (qm_bit y)) fun seen' => qm_fo (qm_get M y) fun m => qm_if (Nat.ble m 9) (qm_fo (qm_get P m) fun x' => ih seen' x') (ih seen' 10)) false)
      (qm_fo (qm_get B w) (qm_cb2 M B P seen k 10)))
theorem qm_cb2_ok {post : Int32 → Prop} {on am bA bB ev wt mk sh : Int32} {a1 a2 a3 a4 a5 a6 : Nat → Int32} {M B P seen : Nat} {k : Nat → Bool} (h2 : qm_arr a2 M 10) (h3 : qm_arr a3 B 10) (h4 : qm_arr a4 P 10) (H : ∀ y, k y = true → post (qm_vI y)) :
    ∀ m i y, i + m = 10 → qm_cb2 M B P seen k m y = true → wX_commonBase_81 post (nI seen) on am bA bB ev wt mk sh a1 a2 a3 a4 a5 a6 (m + 1) (qm_vI y) (nI i) := by
  intro m
  induction m with
  | zero =>
    intro i y hi h
    exact pk_le 10 i (fun _ => H y h) (fun z => absurd z (by omega))
  | succ m ih =>
    intro i y hi h
    obtain ⟨hy, h⟩ := qm_ck h
    have hy := qm_9 hy
    refine pk_le 10 i (fun z => absurd z (by omega)) (fun _ => qm_in_b rfl rfl hy h (fun h => H y h) (fun h => ?_))
    obtain ⟨hm, h⟩ := qm_ck (qm_fo_e h)
    have hm := qm_9 hm
    obtain ⟨hp, h⟩ := qm_ck (qm_fo_e h)
    have hp := qm_9 hp
    have h := qm_fo_e h
    rw [qm_rd h2 hy, qm_rd h4 hm, qm_rd h3 hp]
    exact ⟨qm_vI_in hy, qm_vI_in hm, qm_vI_in hp, nm_e (nm_r (nI_1 i) (ih _ _ (by omega) h))⟩
theorem qm_cb1_ok {post : Int32 → Prop} {on am bA bB ev wt mk sh : Int32} {a1 a2 a3 a4 a5 a6 : Nat → Int32} {M B P w : Nat} {k : Nat → Bool} (h2 : qm_arr a2 M 10) (h3 : qm_arr a3 B 10) (h4 : qm_arr a4 P 10) (hw : w < 10) (H : ∀ y, k y = true → post (qm_vI y)) :
    ∀ m i seen x, i + m = 10 → qm_cb1 M B P w k m seen x = true → wX_commonBase_8 post (qm_vI w) on am bA bB ev wt mk sh a1 a2 a3 a4 a5 a6 (m + 1) (nI seen) (qm_vI x) (nI i) := by
  have X : ∀ seen, qm_fo (qm_get B w) (qm_cb2 M B P seen k 10) = true → vp_in (qm_vI w) 10 ∧ (∀ x5_3 : Int32, x5_3 = a3 (qm_vI w).toNatClampNeg → (∃ fu81 : Nat, wX_commonBase_81 post (nI seen) on am bA bB ev wt mk sh a1 a2 a3 a4 a5 a6 fu81 x5_3 0)) := by
    intro seen h
    exact ⟨qm_vI_in hw, nm_r (qm_rd h3 hw) ⟨11, qm_cb2_ok h2 h3 h4 H 10 0 _ rfl (qm_fo_e h)⟩⟩
  intro m
  induction m with
  | zero =>
    intro i seen x hi h
    exact pk_le 10 i (fun _ => X seen h) (fun z => absurd z (by omega))
  | succ m ih =>
    intro i seen x hi h
    refine pk_le 10 i (fun z => absurd z (by omega)) (fun _ => qm_brn (qm_vI_lt0 x) h (fun h hx => ?_) (fun h hx => X seen h))
    have hx := qm_9 hx
    obtain ⟨hy, h⟩ := qm_ck (qm_fo_e h)
    have hy := qm_9 hy
    have h := qm_fo_e h
    have h := qm_fo_e h
    refine ⟨qm_vI_in hx, nm_r (qm_rd h3 hx) (nm_r (e' := nI (Nat.lor seen (qm_bit (qm_get B x)))) (by rw [qm_vI_n hy, qm_one _ hy, qm_or]) ⟨qm_vI_in hy, ?_⟩)⟩
    rw [qm_rd h2 hy]
    refine qm_br (qm_vI_0le _) h (fun h hm => ?_) (fun h _ => ?_)
    · have hm := qm_9 hm
      exact ⟨qm_vI_in hy, qm_vI_in hm, nm_r (qm_rd h4 hm) (nm_r (nI_1 i) (ih _ _ _ (by omega) (qm_fo_e h)))⟩
    · exact nm_r (nI_1 i) (ih _ _ 10 (by omega) h)
theorem qm_cb_ok {post : Int32 → Prop} {on am bA bB ev wt mk sh : Int32} {a1 a2 a3 a4 a5 a6 : Nat → Int32} {M B P v w : Nat} {k : Nat → Bool} (h2 : qm_arr a2 M 10) (h3 : qm_arr a3 B 10) (h4 : qm_arr a4 P 10) (hw : w < 10) (h : qm_cb1 M B P w k 10 0 v = true) (H : ∀ y, k y = true → post (qm_vI y)) :
    wpX_commonBase post (on, am, bA, bB, ev, wt, mk, sh, a1, a2, a3, a4, a5, a6) (qm_vI v) (qm_vI w) := by
  unfold wpX_commonBase
  exact ⟨11, qm_cb1_ok h2 h3 h4 hw H 10 0 0 v rfl h⟩

/-! markSide -/
noncomputable def qm_ms (M B root : Nat) (k : Nat → Nat → Bool) : Nat → Nat → Nat → Nat → Nat → Bool :=
  @Nat.rec (fun _ => Nat → Nat → Nat → Nat → Bool) (fun _ _ P sh => k P sh)
    (fun _ ih x fr P sh => qm_if (Nat.ble x 9) (qm_fo (qm_get B x) fun b => qm_if (Nat.beq b root) (k P sh)
      (qm_fo (qm_get M x) fun m => qm_if (Nat.ble m 9) (qm_fo (qm_get B m) fun c => qm_if (Nat.ble b 9) (qm_if (Nat.ble c 9)
        (qm_fo (Nat.lor sh (Nat.lor (qm_bit b) (qm_bit c))) fun sh' => qm_fo (qm_set P x fr) fun P' => qm_fo (qm_get P' m) fun x' => ih x' m P' sh') false) false) false)) false)
theorem qm_ms_ok {post : St2 → Prop} {on am bA bB ev wt mk : Int32} {a1 a2 a3 a5 a6 : Nat → Int32} {M B root : Nat} {k : Nat → Nat → Bool} (h2 : qm_arr a2 M 10) (h3 : qm_arr a3 B 10) (hr : root < 10)
    (H : ∀ P' sh' a4', qm_arr a4' P' 10 → k P' sh' = true → post (on, am, bA, bB, ev, wt, mk, nI sh', a1, a2, a3, a4', a5, a6)) :
    ∀ m i x fr P sh a4, i + m = 10 → fr < 10 → qm_arr a4 P 10 → qm_ms M B root k m x fr P sh = true → wX_markSide_9 post (qm_vI root) on am bA bB ev wt mk (m + 1) (qm_vI x) (qm_vI fr) (nI i) (nI sh) a1 a2 a3 a4 a5 a6 := by
  intro m
  induction m with
  | zero =>
    intro i x fr P sh a4 hi hf h4 h
    exact pk_le 10 i (fun _ => H _ _ _ h4 h) (fun z => absurd z (by omega))
  | succ m ih =>
    intro i x fr P sh a4 hi hf h4 h
    obtain ⟨hx, h⟩ := qm_ck h
    have hx := qm_9 hx
    have h := qm_fo_e h
    refine pk_le 10 i (fun z => absurd z (by omega)) (fun _ => ⟨qm_vI_in hx, ?_⟩)
    rw [qm_rd h3 hx, qm_rd h2 hx]
    refine qm_br (qm_vI_eq hr) h (fun h _ => H _ _ _ h4 h) (fun h _ => ?_)
    obtain ⟨hm, h⟩ := qm_ck (qm_fo_e h)
    have hm := qm_9 hm
    obtain ⟨hb, h⟩ := qm_ck (qm_fo_e h)
    have hb := qm_9 hb
    obtain ⟨hc, h⟩ := qm_ck h
    have hc := qm_9 hc
    have h := qm_fo_e h
    have h := qm_fo_e h
    have h := qm_fo_e h
    rw [qm_rd h3 hm]
    have e1 : nI sh ||| (((1 : Int32) <<< (qm_vI (qm_get B x) &&& 31)) ||| ((1 : Int32) <<< (qm_vI (qm_get B (qm_get M x)) &&& 31))) = nI (Nat.lor sh (Nat.lor (qm_bit (qm_get B x)) (qm_bit (qm_get B (qm_get M x))))) := by
      rw [qm_vI_n hb, qm_vI_n hc, qm_one _ hb, qm_one _ hc, qm_or, qm_or]
    have e2 : upd a4 (qm_vI x).toNatClampNeg (qm_vI fr) = upd a4 x (qm_vI fr) := by rw [qm_vI_c hx]
    have h4' : qm_arr (upd a4 x (qm_vI fr)) (qm_set P x fr) 10 := qm_arr_up h4 (by omega)
    exact ⟨qm_vI_in hx, qm_vI_in hx, qm_vI_in hm, nm_r e1 ⟨qm_vI_in hx, nm_r e2 ⟨qm_vI_in hx, nm_e ⟨qm_vI_in hx, qm_vI_in hm, nm_r (qm_rd h4' hm) (nm_r (nI_1 i) (ih _ _ _ _ _ _ (by omega) hm h4' h))⟩⟩⟩⟩
theorem qm_mside_ok {post : St2 → Prop} {on am bA bB ev wt mk : Int32} {a1 a2 a3 a4 a5 a6 : Nat → Int32} {M B P root v w sh : Nat} {k : Nat → Nat → Bool} (h2 : qm_arr a2 M 10) (h3 : qm_arr a3 B 10) (h4 : qm_arr a4 P 10) (hr : root < 10) (hw : w < 10) (h : qm_ms M B root k 10 v w P sh = true)
    (H : ∀ P' sh' a4', qm_arr a4' P' 10 → k P' sh' = true → post (on, am, bA, bB, ev, wt, mk, nI sh', a1, a2, a3, a4', a5, a6)) :
    wpX_markSide post (on, am, bA, bB, ev, wt, mk, nI sh, a1, a2, a3, a4, a5, a6) (qm_vI v) (qm_vI root) (qm_vI w) := by
  unfold wpX_markSide
  exact ⟨11, qm_ms_ok h2 h3 hr H 10 0 v w P sh a4 rfl hw h4 h⟩

/-! shrink -/
noncomputable def qm_sk (S SH r : Nat) (k : Nat → Nat → Nat → Nat → Bool) : Nat → Nat → Nat → Nat → Nat → Bool :=
  @Nat.rec (fun _ => Nat → Nat → Nat → Nat → Bool) (fun B EV W Q => k B EV W Q)
    (fun m ih B EV W Q => qm_fo (Nat.sub 9 m) fun x => qm_if (qm_tb S x)
      (qm_fo (qm_get B x) fun b => qm_if (Nat.ble b 9) (qm_if (qm_tb SH b) (qm_fo (qm_set B x r) fun B' => qm_meet EV W Q x (ih B')) (ih B EV W Q)) false)
      (ih B EV W Q))
theorem qm_sk_s (S SH r : Nat) (k : Nat → Nat → Nat → Nat → Bool) (m B EV W Q : Nat) : qm_sk S SH r k (m + 1) B EV W Q = qm_fo (Nat.sub 9 m) fun x => qm_if (qm_tb S x)
      (qm_fo (qm_get B x) fun b => qm_if (Nat.ble b 9) (qm_if (qm_tb SH b) (qm_fo (qm_set B x r) fun B' => qm_meet EV W Q x (qm_sk S SH r k m B')) (qm_sk S SH r k m B EV W Q)) false)
      (qm_sk S SH r k m B EV W Q) := rfl
theorem qm_sub9 {i m : Nat} (h : i + (m + 1) = 10) : Nat.sub 9 m = i := by
  show 9 - m = i
  omega
theorem qm_sk_ok {post : St2 → Prop} {on bA bB mk : Int32} {a1 a2 a4 a6 : Nat → Int32} {S SH r : Nat} {k : Nat → Nat → Nat → Nat → Bool} (hr : r < 10)
    (H : ∀ B EV W Q a3 a5, qm_arr a3 B 10 → W ≤ 10 → qm_arr a5 Q W → k B EV W Q = true → post (on, nI S, bA, bB, nI EV, nI W, mk, nI SH, a1, a2, a3, a4, a5, a6)) :
    ∀ m i B EV W Q a3 a5, i + m = 10 → qm_arr a3 B 10 → W ≤ 10 → qm_arr a5 Q W → qm_sk S SH r k m B EV W Q = true → wX_shrink_29 post (qm_vI r) (m + 1) (nI i) on (nI S) bA bB (nI EV) (nI W) mk (nI SH) a1 a2 a3 a4 a5 a6 := by
  intro m
  induction m with
  | zero =>
    intro i B EV W Q a3 a5 hi h3 hW h5 h
    exact pk_le 10 i (fun _ => H _ _ _ _ _ _ h3 hW h5 h) (fun z => absurd z (by omega))
  | succ m ih =>
    intro i B EV W Q a3 a5 hi h3 hW h5 h
    rw [qm_sk_s, qm_sub9 hi] at h
    have h := qm_fo_e h
    have hx : i < 10 := by omega
    refine pk_le 10 i (fun z => absurd z (by omega)) (fun _ => qm_in_n rfl hx h (fun h => ?_) (fun h => nm_r (nI_1 i) (ih _ _ _ _ _ _ _ (by omega) h3 hW h5 h)))
    obtain ⟨hb, h⟩ := qm_ck (qm_fo_e h)
    have hb := qm_9 hb
    refine ⟨pk_in i 10 hx, ?_⟩
    rw [qm_rdn h3 hx]
    refine qm_in_b rfl rfl hb h (fun h => ⟨pk_in i 10 hx, ?_⟩) (fun h => nm_r (nI_1 i) (ih _ _ _ _ _ _ _ (by omega) h3 hW h5 h))
    have e2 : upd a3 (nI i).toNatClampNeg (qm_vI r) = upd a3 i (qm_vI r) := by rw [nI_clamp (by omega)]
    refine nm_r e2 (qm_meet_ok (qm_vI_n hx).symm hx hW h5 (qm_fo_e h) (fun EV' W' Q' a5' hW' h5' h => ?_))
    exact nm_r (nI_1 i) (ih _ _ _ _ _ _ _ (by omega) (qm_arr_up h3 (by omega)) hW' h5' h)
noncomputable def qm_shr (S M v w B P EV W Q : Nat) (k : Nat → Nat → Nat → Nat → Nat → Bool) : Bool :=
  qm_cb1 M B P w (fun r => qm_if (Nat.ble r 9) (qm_ms M B r (fun P1 sh1 => qm_ms M B r (fun P2 sh2 => qm_sk S sh2 r (fun B' EV' W' Q' => k B' P2 EV' W' Q') 10 B EV W Q) 10 w v P1 sh1) 10 v w P 0) false) 10 0 v
theorem qm_shr_ok {post : St2 → Prop} {on bA bB mk sh : Int32} {a1 a2 a3 a4 a5 a6 : Nat → Int32} {S M v w B P EV W Q : Nat} {k : Nat → Nat → Nat → Nat → Nat → Bool} (hv : v < 10) (hw : w < 10) (h2 : qm_arr a2 M 10) (h3 : qm_arr a3 B 10) (h4 : qm_arr a4 P 10) (hW : W ≤ 10) (h5 : qm_arr a5 Q W) (h : qm_shr S M v w B P EV W Q k = true)
    (H : ∀ B P EV W Q sh a3 a4 a5, qm_arr a3 B 10 → qm_arr a4 P 10 → W ≤ 10 → qm_arr a5 Q W → k B P EV W Q = true → post (on, nI S, bA, bB, nI EV, nI W, mk, sh, a1, a2, a3, a4, a5, a6)) :
    wpX_shrink post (on, nI S, bA, bB, nI EV, nI W, mk, sh, a1, a2, a3, a4, a5, a6) (qm_vI v) (qm_vI w) := by
  unfold wpX_shrink
  dsimp only
  refine qm_cb_ok h2 h3 h4 hw h (fun r h => ?_)
  obtain ⟨hr, h⟩ := qm_ck h
  have hr := qm_9 hr
  refine qm_mside_ok (sh := 0) h2 h3 h4 hr hw h (fun P1 sh1 b4 g4 h => ?_)
  refine qm_mside_ok h2 h3 g4 hr hv h (fun P2 sh2 c4 k4 h => ?_)
  exact ⟨11, qm_sk_ok hr (fun B EV W Q a3 a5 h3 hW h5 h => H _ _ _ _ _ _ _ _ _ h3 k4 hW h5 h) 10 0 B EV W Q a3 a5 rfl h3 hW h5 h⟩
end
section
/-! look -/
noncomputable def qm_rest (v w mw B P EV W Q : Nat) (kn : Nat → Nat → Nat → Nat → Nat → Bool) (ke : Nat → Bool) : Bool :=
  qm_fo (qm_get P w) fun pw => qm_if (Nat.ble pw 9) (kn B P EV W Q) (qm_fo (qm_set P w v) fun P' => qm_if (Nat.ble mw 9) (qm_meet EV W Q mw (fun EV' W' Q' => kn B P' EV' W' Q')) (ke P'))
noncomputable def qm_look (S M root v w B P EV W Q : Nat) (kn : Nat → Nat → Nat → Nat → Nat → Bool) (ke : Nat → Bool) : Bool :=
  qm_fo (qm_get B v) fun bv => qm_if (Nat.ble bv 9) (qm_if (Nat.beq bv (qm_get B w)) (kn B P EV W Q)
    (qm_if (Nat.beq (qm_get M v) w) (kn B P EV W Q)
      (qm_if (Nat.beq w root) (qm_shr S M v w B P EV W Q kn)
        (qm_fo (qm_get M w) fun mw => qm_if (Nat.ble mw 9)
          (qm_if (Nat.ble (qm_get P mw) 9) (qm_shr S M v w B P EV W Q kn) (qm_rest v w mw B P EV W Q kn ke))
          (qm_rest v w mw B P EV W Q kn ke))))) false
/-- what a look leaves behind when no end is found -/
def qm_KN (post : Int32 → St2 → Prop) (on am bA bB mk : Int32) (a1 a2 a6 : Nat → Int32) (kn : Nat → Nat → Nat → Nat → Nat → Bool) : Prop :=
  ∀ B P EV W Q sh a3 a4 a5, qm_arr a3 B 10 → qm_arr a4 P 10 → W ≤ 10 → qm_arr a5 Q W → kn B P EV W Q = true → post (-1) (on, am, bA, bB, nI EV, nI W, mk, sh, a1, a2, a3, a4, a5, a6)
/-- .. and when w is an end -/
def qm_KE (post : Int32 → St2 → Prop) (on am bA bB mk : Int32) (a1 a2 a6 : Nat → Int32) (w : Nat) (ke : Nat → Bool) : Prop :=
  ∀ P ev wt sh a3 a4 a5, qm_arr a4 P 10 → ke P = true → post (nI w) (on, am, bA, bB, ev, wt, mk, sh, a1, a2, a3, a4, a5, a6)
theorem qm_look_ok {post : Int32 → St2 → Prop} {on bA bB mk sh : Int32} {a1 a2 a3 a4 a5 a6 : Nat → Int32} {S M root v w B P EV W Q : Nat} {kn : Nat → Nat → Nat → Nat → Nat → Bool} {ke : Nat → Bool} (hv : v < 10) (hw : w < 10) (hr : root < 10) (h2 : qm_arr a2 M 10) (h3 : qm_arr a3 B 10) (h4 : qm_arr a4 P 10) (hW : W ≤ 10) (h5 : qm_arr a5 Q W) (h : qm_look S M root v w B P EV W Q kn ke = true)
    (HN : qm_KN post on (nI S) bA bB mk a1 a2 a6 kn) (HE : qm_KE post on (nI S) bA bB mk a1 a2 a6 w ke) :
    wpX_look post (on, nI S, bA, bB, nI EV, nI W, mk, sh, a1, a2, a3, a4, a5, a6) (qm_vI v) (nI w) (qm_vI root) := by
  rw [← qm_vI_n hw]
  have N : kn B P EV W Q = true → post (-1) (on, nI S, bA, bB, nI EV, nI W, mk, sh, a1, a2, a3, a4, a5, a6) := fun h => HN _ _ _ _ _ _ _ _ _ h3 h4 hW h5 h
  have T : qm_shr S M v w B P EV W Q kn = true → wX_look_60 post (qm_vI v) (qm_vI w) 1 on (nI S) bA bB (nI EV) (nI W) mk sh a1 a2 a3 a4 a5 a6 := by
    intro h
    unfold wX_look_60
    refine ⟨fun z => absurd z (by decide), fun _ => qm_shr_ok hv hw h2 h3 h4 hW h5 h (fun B P EV W Q sh a3 a4 a5 h3 h4 hW h5 h => ?_)⟩
    exact HN _ _ _ _ _ _ _ _ _ h3 h4 hW h5 h
  have R : qm_rest v w (qm_get M w) B P EV W Q kn ke = true → wX_look_60 post (qm_vI v) (qm_vI w) 0 on (nI S) bA bB (nI EV) (nI W) mk sh a1 a2 a3 a4 a5 a6 := by
    intro h
    unfold qm_rest at h
    have h := qm_fo_e h
    unfold wX_look_60
    refine ⟨fun _ => ⟨qm_vI_in hw, ?_⟩, fun z => absurd rfl z⟩
    rw [qm_rd h4 hw, qm_rd h2 hw]
    refine qm_brn (qm_vI_lt0 _) h (fun h _ => N h) (fun h _ => ⟨qm_vI_in hw, ?_⟩)
    have h := qm_fo_e h
    have e2 : upd a4 (qm_vI w).toNatClampNeg (qm_vI v) = upd a4 w (qm_vI v) := by rw [qm_vI_c hw]
    have h4' : qm_arr (upd a4 w (qm_vI v)) (qm_set P w v) 10 := qm_arr_up h4 (by omega)
    refine nm_r e2 ⟨qm_vI_in hw, qm_br (qm_vI_0le _) h (fun h hm => ⟨qm_vI_in hw, ?_⟩) (fun h _ => ?_)⟩
    · refine qm_meet_ok rfl (qm_9 hm) hW h5 h (fun EV' W' Q' a5' hW' h5' h => ?_)
      exact HN _ _ _ _ _ _ _ _ _ h3 h4' hW' h5' h
    · rw [qm_vI_n hw]
      exact HE _ _ _ _ _ _ _ h4' h
  unfold qm_look at h
  obtain ⟨hb, h⟩ := qm_ck (qm_fo_e h)
  have hb := qm_9 hb
  unfold wpX_look
  dsimp only
  rw [qm_rd h3 hv, qm_rd h3 hw, qm_rd h2 hv, qm_rd h2 hw]
  refine ⟨qm_vI_in hv, qm_vI_in hw, qm_br (qm_vI_eq' hb) h (fun h _ => N h) (fun h _ => ⟨qm_vI_in hv, ?_⟩)⟩
  refine qm_br (qm_vI_eq hw) h (fun h _ => N h) (fun h _ => ?_)
  refine qm_br (qm_vI_eq hr) h (fun h _ => T h) (fun h _ => ⟨qm_vI_in hw, ?_⟩)
  refine qm_brn (qm_vI_lt0 _) (qm_fo_e h) (fun h hm => ?_) (fun h _ => R h)
  have hm := qm_9 hm
  refine ⟨qm_vI_in hw, qm_vI_in hm, ?_⟩
  rw [qm_rd h4 hm]
  exact qm_brn (qm_vI_lt0 _) h (fun h _ => T h) (fun h _ => R h)

/-! search -/
noncomputable def qm_s63 (S M root v r : Nat) (J : Nat → Nat → Nat → Nat → Nat → Bool) (ke : Nat → Nat → Bool) : Nat → Nat → Nat → Nat → Nat → Nat → Bool :=
  @Nat.rec (fun _ => Nat → Nat → Nat → Nat → Nat → Bool) J
    (fun m ih B P EV W Q => qm_fo (Nat.sub 9 m) fun w => qm_if (qm_tb r w) (qm_look S M root v w B P EV W Q ih (ke w)) (ih B P EV W Q))
theorem qm_s63_s (S M root v r : Nat) (J : Nat → Nat → Nat → Nat → Nat → Bool) (ke : Nat → Nat → Bool) (m B P EV W Q : Nat) : qm_s63 S M root v r J ke (m + 1) B P EV W Q =
    qm_fo (Nat.sub 9 m) fun w => qm_if (qm_tb r w) (qm_look S M root v w B P EV W Q (qm_s63 S M root v r J ke m) (ke w)) (qm_s63 S M root v r J ke m B P EV W Q) := rfl
noncomputable def qm_s45 (S G M root : Nat) (kn : Nat → Bool) (ke : Nat → Nat → Bool) : Nat → Nat → Nat → Nat → Nat → Nat → Nat → Bool :=
  @Nat.rec (fun _ => Nat → Nat → Nat → Nat → Nat → Nat → Bool) (fun _ _ _ _ _ _ => false)
    (fun _ ih i B P EV W Q => qm_if (Nat.ble W i) (kn EV) (qm_fo (qm_get Q i) fun v => qm_if (Nat.ble v 9) (qm_fo (qm_row G v) fun r => qm_fo (Nat.succ i) fun j => qm_s63 S M root v r (ih j) ke 10 B P EV W Q) false))
theorem qm_s45_s (S G M root : Nat) (kn : Nat → Bool) (ke : Nat → Nat → Bool) (n i B P EV W Q : Nat) : qm_s45 S G M root kn ke (n + 1) i B P EV W Q =
    qm_if (Nat.ble W i) (kn EV) (qm_fo (qm_get Q i) fun v => qm_if (Nat.ble v 9) (qm_fo (qm_row G v) fun r => qm_fo (Nat.succ i) fun j => qm_s63 S M root v r (qm_s45 S G M root kn ke n j) ke 10 B P EV W Q) false) := rfl
noncomputable def qm_search (S G M root : Nat) (kn : Nat → Bool) (ke : Nat → Nat → Bool) : Bool :=
  qm_meet 0 0 0 root (fun EV W Q => qm_s45 S G M root kn ke 11 0 654820258320 733007751850 EV W Q)
theorem qm_s63_ok {post : Int32 → St2 → Prop} {J45 : Int32 → Int32 → Int32 → Int32 → Int32 → Int32 → Int32 → Int32 → Int32 → (Nat → Int32) → (Nat → Int32) → (Nat → Int32) → (Nat → Int32) → (Nat → Int32) → (Nat → Int32) → Prop} {on bA bB mk x2 : Int32} {a1 a2 a6 : Nat → Int32} {S G M root v : Nat} {J : Nat → Nat → Nat → Nat → Nat → Bool} {ke : Nat → Nat → Bool} (hv : v < 10) (hr : root < 10) (hG : qm_gr a1 (nI S) bA bB G) (h2 : qm_arr a2 M 10)
    (HJ : ∀ B P EV W Q sh a3 a4 a5, qm_arr a3 B 10 → qm_arr a4 P 10 → W ≤ 10 → qm_arr a5 Q W → J B P EV W Q = true → J45 (x2 + 1) on (nI S) bA bB (nI EV) (nI W) mk sh a1 a2 a3 a4 a5 a6)
    (HE : ∀ w, w < 10 → qm_KE post on (nI S) bA bB mk a1 a2 a6 w (ke w)) :
    ∀ m i B P EV W Q sh a3 a4 a5, i + m = 10 → qm_arr a3 B 10 → qm_arr a4 P 10 → W ≤ 10 → qm_arr a5 Q W → qm_s63 S M root v (qm_row G v) J ke m B P EV W Q = true →
      wX_search_63 post J45 (qm_vI root) x2 (qm_vI v) (m + 1) (nI i) on (nI S) bA bB (nI EV) (nI W) mk sh a1 a2 a3 a4 a5 a6 := by
  intro m
  induction m with
  | zero =>
    intro i B P EV W Q sh a3 a4 a5 hi h3 h4 hW h5 h
    exact pk_le 10 i (fun _ => nm_e (HJ _ _ _ _ _ _ _ _ _ h3 h4 hW h5 h)) (fun z => absurd z (by omega))
  | succ m ih =>
    intro i B P EV W Q sh a3 a4 a5 hi h3 h4 hW h5 h
    rw [qm_s63_s, qm_sub9 hi] at h
    have h := qm_fo_e h
    have hx : i < 10 := by omega
    refine pk_le 10 i (fun z => absurd z (by omega)) (fun _ => qm_us hG hv hx h (fun h => ?_) (fun h => ?_))
    · refine qm_look_ok hv hx hr h2 h3 h4 hW h5 h ?_ ?_
      · intro B P EV W Q sh a3 a4 a5 h3 h4 hW h5 h
        exact br_t (by decide) (nm_r (nI_1 i) (ih _ _ _ _ _ _ _ _ _ _ (by omega) h3 h4 hW h5 h))
      · intro P ev wt sh a3 a4 a5 h4 h
        exact br_f (nI_pos (by omega)) (HE i hx _ _ _ _ _ _ _ h4 h)
    · exact br_t (by decide) (nm_r (nI_1 i) (ih _ _ _ _ _ _ _ _ _ _ (by omega) h3 h4 hW h5 h))
theorem qm_s45_ok {post : Int32 → St2 → Prop} {on bA bB mk : Int32} {a1 a2 a6 : Nat → Int32} {S G M root : Nat} {kn : Nat → Bool} {ke : Nat → Nat → Bool} (hr : root < 10) (hG : qm_gr a1 (nI S) bA bB G) (h2 : qm_arr a2 M 10)
    (HN : ∀ EV wt sh a3 a4 a5, kn EV = true → post (-1) (on, nI S, bA, bB, nI EV, wt, mk, sh, a1, a2, a3, a4, a5, a6))
    (HE : ∀ w, w < 10 → qm_KE post on (nI S) bA bB mk a1 a2 a6 w (ke w)) :
    ∀ n i B P EV W Q sh a3 a4 a5, i ≤ 10 → qm_arr a3 B 10 → qm_arr a4 P 10 → W ≤ 10 → qm_arr a5 Q W → qm_s45 S G M root kn ke n i B P EV W Q = true →
      wX_search_45 post (qm_vI root) n (nI i) on (nI S) bA bB (nI EV) (nI W) mk sh a1 a2 a3 a4 a5 a6 := by
  intro n
  induction n with
  | zero =>
    intro i B P EV W Q sh a3 a4 a5 hi h3 h4 hW h5 h
    exact absurd (show false = true from h) (by decide)
  | succ n ih =>
    intro i B P EV W Q sh a3 a4 a5 hi h3 h4 hW h5 h
    rw [qm_s45_s] at h
    rcases qm_if_e h with ⟨c, h⟩ | ⟨c, h⟩
    · have c := qm_le c
      exact pk_le W i (fun _ => HN _ _ _ _ _ _ h) (fun z => absurd z (by omega))
    · have c := qm_nle c
      obtain ⟨hv, h⟩ := qm_ck (qm_fo_e h)
      have hv := qm_9 hv
      have h := qm_fo_e h
      have h := qm_fo_e h
      have e : a5 (nI i).toNatClampNeg = qm_vI (qm_get Q i) := by
        rw [nI_clamp (by omega)]
        exact h5 i c
      refine pk_le W i (fun z => absurd z (by omega)) (fun _ => ⟨pk_in i 10 (by omega), nm_r e ⟨11, ?_⟩⟩)
      refine qm_s63_ok hv hr hG h2 (fun B P EV W Q sh a3 a4 a5 h3 h4 hW h5 h => ?_) HE 10 0 _ _ _ _ _ _ _ _ _ rfl h3 h4 hW h5 h
      rw [nI_1]
      exact ih _ _ _ _ _ _ _ _ _ _ (by omega) h3 h4 hW h5 h
theorem qm_B0 : ∀ j, j < 10 → nI j = qm_vI (qm_get 654820258320 j) := by decide +kernel
theorem qm_P0 : ∀ j, j < 10 → -1 = qm_vI (qm_get 733007751850 j) := by decide +kernel
theorem qm_fill {s f : Nat → Int32} {i k : Nat} {x : Int32} (hk : k = i) (h : ∀ j, j < i → s j = f j) (hx : x = f i) : ∀ j, j < i + 1 → upd s k x j = f j := by
  intro j hj
  rw [hk]
  by_cases e : j = i
  · rw [e, pk_us, hx]
  · rw [pk_un e]
    exact h j (by omega)
theorem qm_search_ok {post : Int32 → St2 → Prop} {on bA bB ev wt mk sh : Int32} {a1 a2 a3 a4 a5 a6 : Nat → Int32} {S G M root : Nat} {kn : Nat → Bool} {ke : Nat → Nat → Bool} (hr : root < 10) (hG : qm_gr a1 (nI S) bA bB G) (h2 : qm_arr a2 M 10) (h : qm_search S G M root kn ke = true)
    (HN : ∀ EV wt sh a3 a4 a5, kn EV = true → post (-1) (on, nI S, bA, bB, nI EV, wt, mk, sh, a1, a2, a3, a4, a5, a6))
    (HE : ∀ w, w < 10 → qm_KE post on (nI S) bA bB mk a1 a2 a6 w (ke w)) :
    wpX_search post (on, nI S, bA, bB, ev, wt, mk, sh, a1, a2, a3, a4, a5, a6) (qm_vI root) := by
  unfold wpX_search
  dsimp only
  refine pk_loop (fun n i (s : (Nat → Int32) × (Nat → Int32)) => wX_search_2 post (qm_vI root) on (nI S) bA bB ev wt mk sh n (nI i) a1 a2 s.1 s.2 a5 a6) (fun i s => (∀ j, j < i → s.1 j = nI j) ∧ (∀ j, j < i → s.2 j = -1)) 10 0 (a3, a4) (by omega) ⟨fun j hj => absurd hj (by omega), fun j hj => absurd hj (by omega)⟩ ?_ ?_
  · intro n s hs
    refine pk_le 10 10 (fun _ => ?_) (fun z => absurd z (by omega))
    refine qm_meet_ok (EV := 0) (W := 0) (Q := 0) rfl hr (by omega) (fun j hj => absurd hj (by omega)) h (fun EV W Q a5 hW h5 h => ?_)
    exact ⟨11, qm_s45_ok hr hG h2 HN HE 11 0 _ _ _ _ _ _ _ _ _ (by omega) (fun j hj => (hs.1 j hj).trans (qm_B0 j hj)) (fun j hj => (hs.2 j hj).trans (qm_P0 j hj)) hW h5 h⟩
  · intro n i s hi hs hw
    refine pk_le 10 i (fun z => absurd z (by omega)) (fun _ => ⟨pk_in i 10 hi, nm_e ⟨pk_in i 10 hi, nm_e (nm_r (nI_1 i) (hw (_, _) ⟨?_, ?_⟩))⟩⟩)
    · exact qm_fill (nI_clamp (by omega)) hs.1 rfl
    · exact qm_fill (f := fun _ => -1) (nI_clamp (by omega)) hs.2 rfl

/-! turnRound -/
noncomputable def qm_tr (P : Nat) (k : Nat → Bool) : Nat → Nat → Nat → Bool :=
  @Nat.rec (fun _ => Nat → Nat → Bool) (fun _ M => k M)
    (fun _ ih w M => qm_if (Nat.ble w 9) (qm_fo (qm_get P w) fun v => qm_if (Nat.ble v 9) (qm_fo (qm_get M v) fun nx => qm_fo (qm_set M v w) fun M1 => qm_fo (qm_set M1 w v) fun M2 => ih nx M2) false) (k M))
theorem qm_tr_ok {post : St2 → Prop} {on am bA bB ev wt mk sh : Int32} {a1 a3 a4 a5 a6 : Nat → Int32} {P : Nat} {k : Nat → Bool} (h4 : qm_arr a4 P 10)
    (H : ∀ M a2, qm_arr a2 M 10 → k M = true → post (on, am, bA, bB, ev, wt, mk, sh, a1, a2, a3, a4, a5, a6)) :
    ∀ m i w M a2, i + m = 10 → qm_arr a2 M 10 → qm_tr P k m w M = true → wX_turnRound_4 post on am bA bB ev wt mk sh (m + 1) (qm_vI w) (nI i) a1 a2 a3 a4 a5 a6 := by
  intro m
  induction m with
  | zero =>
    intro i w M a2 hi h2 h
    exact pk_le 10 i (fun _ => H _ _ h2 h) (fun z => absurd z (by omega))
  | succ m ih =>
    intro i w M a2 hi h2 h
    refine pk_le 10 i (fun z => absurd z (by omega)) (fun _ => qm_brn (qm_vI_lt0 w) h (fun h hw => ?_) (fun h _ => H _ _ h2 h))
    have hw := qm_9 hw
    obtain ⟨hv, h⟩ := qm_ck (qm_fo_e h)
    have hv := qm_9 hv
    have h := qm_fo_e h
    have h := qm_fo_e h
    have h := qm_fo_e h
    have e1 : upd a2 (qm_vI (qm_get P w)).toNatClampNeg (qm_vI w) = upd a2 (qm_get P w) (qm_vI w) := by rw [qm_vI_c hv]
    have e2 : upd (upd a2 (qm_get P w) (qm_vI w)) (qm_vI w).toNatClampNeg (qm_vI (qm_get P w)) = upd (upd a2 (qm_get P w) (qm_vI w)) w (qm_vI (qm_get P w)) := by rw [qm_vI_c hw]
    exact ⟨qm_vI_in hw, nm_r (qm_rd h4 hw) ⟨qm_vI_in hv, nm_r (qm_rd h2 hv) ⟨qm_vI_in hv, nm_r e1 ⟨qm_vI_in hw, nm_r e2 (nm_r (nI_1 i) (ih _ _ _ _ (by omega) (qm_arr_up (qm_arr_up h2 (by omega)) (by omega)) h))⟩⟩⟩⟩
theorem qm_turn_ok {post : St2 → Prop} {on am bA bB ev wt mk sh : Int32} {a1 a2 a3 a4 a5 a6 : Nat → Int32} {P M w : Nat} {k : Nat → Bool} (hw : w < 10) (h2 : qm_arr a2 M 10) (h4 : qm_arr a4 P 10) (h : qm_tr P k 10 w M = true)
    (H : ∀ M a2, qm_arr a2 M 10 → k M = true → post (on, am, bA, bB, ev, wt, mk, sh, a1, a2, a3, a4, a5, a6)) :
    wpX_turnRound post (on, am, bA, bB, ev, wt, mk, sh, a1, a2, a3, a4, a5, a6) (nI w) := by
  rw [← qm_vI_n hw]
  unfold wpX_turnRound
  exact ⟨11, qm_tr_ok h4 H 10 0 w M a2 rfl h2 h⟩

/-! matchAmong -/
noncomputable def qm_ma (S G : Nat) (k : Nat → Nat → Bool) : Nat → Nat → Nat → Bool :=
  @Nat.rec (fun _ => Nat → Nat → Bool) k
    (fun m ih n M => qm_fo (Nat.sub 9 m) fun v => qm_if (qm_tb S v)
      (qm_if (Nat.ble (qm_get M v) 9) (ih n M) (qm_search S G M v (fun _ => ih n M) (fun w P => qm_tr P (fun M' => qm_fo (Nat.succ n) fun n' => ih n' M') 10 w M)))
      (ih n M))
theorem qm_ma_s (S G : Nat) (k : Nat → Nat → Bool) (m n M : Nat) : qm_ma S G k (m + 1) n M = qm_fo (Nat.sub 9 m) fun v => qm_if (qm_tb S v)
      (qm_if (Nat.ble (qm_get M v) 9) (qm_ma S G k m n M) (qm_search S G M v (fun _ => qm_ma S G k m n M) (fun w P => qm_tr P (fun M' => qm_fo (Nat.succ n) fun n' => qm_ma S G k m n' M') 10 w M)))
      (qm_ma S G k m n M) := rfl
theorem qm_ma_ok {post : Int32 → St2 → Prop} {on bA bB mk : Int32} {a1 a6 : Nat → Int32} {S G : Nat} {k : Nat → Nat → Bool} (hG : qm_gr a1 (nI S) bA bB G)
    (H : ∀ n M ev wt sh a2 a3 a4 a5, qm_arr a2 M 10 → k n M = true → post (nI n) (on, nI S, bA, bB, ev, wt, mk, sh, a1, a2, a3, a4, a5, a6)) :
    ∀ m i n M ev wt sh a2 a3 a4 a5, i + m = 10 → qm_arr a2 M 10 → qm_ma S G k m n M = true →
      wX_matchAmong_30 post (nI S) (m + 1) (nI n) (nI i) on (nI S) bA bB ev wt mk sh a1 a2 a3 a4 a5 a6 := by
  intro m
  induction m with
  | zero =>
    intro i n M ev wt sh a2 a3 a4 a5 hi h2 h
    exact pk_le 10 i (fun _ => H _ _ _ _ _ _ _ _ _ h2 h) (fun z => absurd z (by omega))
  | succ m ih =>
    intro i n M ev wt sh a2 a3 a4 a5 hi h2 h
    rw [qm_ma_s, qm_sub9 hi] at h
    have h := qm_fo_e h
    have hx : i < 10 := by omega
    refine pk_le 10 i (fun z => absurd z (by omega)) (fun _ => qm_in_n rfl hx h (fun h => ⟨pk_in i 10 hx, ?_⟩) (fun h => nm_r (nI_1 i) (ih _ _ _ _ _ _ _ _ _ _ (by omega) h2 h)))
    rw [qm_rdn h2 hx]
    refine qm_br (qm_vI_0le _) h (fun h _ => nm_r (nI_1 i) (ih _ _ _ _ _ _ _ _ _ _ (by omega) h2 h)) (fun h _ => ?_)
    rw [← qm_vI_n hx]
    refine qm_search_ok hx hG h2 h (fun EV wt sh a3 a4 a5 h => ?_) (fun w hw P ev wt sh a3 a4 a5 h4 h => ?_)
    · rw [qm_vI_n hx]
      exact br_t (by decide) (nm_r (nI_1 i) (ih _ _ _ _ _ _ _ _ _ _ (by omega) h2 h))
    · refine br_f (nI_pos (by omega)) (qm_turn_ok hw h2 h4 h (fun M' a2' h2' h => ?_))
      rw [qm_vI_n hx]
      have h := qm_fo_e h
      exact nm_r (nI_1 n) (nm_r (nI_1 i) (ih _ _ _ _ _ _ _ _ _ _ (by omega) h2' h))
noncomputable def qm_match (S G : Nat) (k : Nat → Nat → Bool) : Bool := qm_ma S G k 10 0 733007751850
theorem qm_match_ok {post : Int32 → St2 → Prop} {on am bA bB ev wt mk sh : Int32} {a1 a2 a3 a4 a5 a6 : Nat → Int32} {S G : Nat} {k : Nat → Nat → Bool} (hG : qm_gr a1 (nI S) bA bB G) (h : qm_match S G k = true)
    (H : ∀ n M ev wt sh a2 a3 a4 a5, qm_arr a2 M 10 → k n M = true → post (nI n) (on, nI S, bA, bB, ev, wt, mk, sh, a1, a2, a3, a4, a5, a6)) :
    wpX_matchAmong post (on, am, bA, bB, ev, wt, mk, sh, a1, a2, a3, a4, a5, a6) (nI S) := by
  unfold wpX_matchAmong
  dsimp only
  refine pk_loop (fun n i s => wX_matchAmong_7 post (nI S) on (nI S) bA bB ev wt mk sh n (nI i) a1 s a3 a4 a5 a6) (fun i s => ∀ j, j < i → s j = -1) 10 0 a2 (by omega) (fun j hj => absurd hj (by omega)) ?_ ?_
  · intro n s hs
    refine pk_le 10 10 (fun _ => ?_) (fun z => absurd z (by omega))
    exact ⟨11, qm_ma_ok hG H 10 0 0 _ _ _ _ _ _ _ _ rfl (fun j hj => (hs j hj).trans (qm_P0 j hj)) h⟩
  · intro n i s hi hs hw
    refine pk_le 10 i (fun z => absurd z (by omega)) (fun _ => ⟨pk_in i 10 hi, nm_e (nm_r (nI_1 i) (hw _ ?_))⟩)
    exact qm_fill (f := fun _ => -1) (nI_clamp (by omega)) hs rfl
end
section
/-! sizeAmong: the graph among a set -/
def qm_R : Nat := 1239150146850664126585242625
theorem qm_rep : ∀ S, S < 1024 → ∀ v, v < 10 → qm_row (Nat.mul S 1239150146850664126585242625) v = S := by decide +kernel
theorem qm_tb_row (X v : Nat) {w : Nat} (hw : w < 10) : qm_tb (qm_row X v) w = X.testBit (10 * v + w) := by
  rw [qm_tb_t, qm_row_eq, Nat.testBit_mod_two_pow, Nat.testBit_shiftRight, decide_eq_true hw]
  rfl
theorem qm_grS {a1 : Nat → Int32} {E S : Nat} (h1 : qm_rows a1 E) (hS : S < 1024) : qm_gr a1 (nI S) (-1) (-1) (Nat.land E (Nat.mul S 1239150146850664126585242625)) := by
  intro v w hv hw
  have e : qm_tb (qm_row (Nat.land E (Nat.mul S 1239150146850664126585242625)) v) w = (qm_tb (qm_row E v) w && qm_tb S w) := by
    rw [qm_tb_row _ _ hw, qm_tb_row _ _ hw]
    show (E &&& (Nat.mul S 1239150146850664126585242625)).testBit (10 * v + w) = _
    rw [Nat.testBit_and, ← qm_tb_row (Nat.mul S 1239150146850664126585242625) v hw, qm_rep S hS v hv]
  rw [e, Bool.and_eq_true]
  unfold qm_ib
  rw [h1 v hv, qm_tb_iff _ (show w < 31 by omega), qm_tb_iff _ (show w < 31 by omega)]
  exact ⟨fun t => ⟨fun z => qm_neg1 v hv z.1, fun z => qm_neg1 v hv z.1, t.1, t.2⟩, fun t => ⟨t.2.2.1, t.2.2.2⟩⟩
noncomputable def qm_sz (S E : Nat) (k : Nat → Nat → Bool) : Bool := qm_if (Nat.ble S 1023) (qm_fo (Nat.land E (Nat.mul S 1239150146850664126585242625)) fun G => qm_match S G k) false
theorem qm_sz_ok {post : Int32 → St2 → Prop} {on am bA bB ev wt mk sh : Int32} {a1 a2 a3 a4 a5 a6 : Nat → Int32} {S E : Nat} {k : Nat → Nat → Bool} (h1 : qm_rows a1 E) (h : qm_sz S E k = true)
    (H : ∀ n M ev wt sh a2 a3 a4 a5, qm_arr a2 M 10 → k n M = true → post (nI n) (on, nI S, -1, -1, ev, wt, mk, sh, a1, a2, a3, a4, a5, a6)) :
    wpX_sizeAmong post (on, am, bA, bB, ev, wt, mk, sh, a1, a2, a3, a4, a5, a6) (nI S) := by
  unfold qm_sz at h
  obtain ⟨hS, h⟩ := qm_ck h
  have hS : S < 1024 := Nat.lt_succ_of_le (qm_le hS)
  have h := qm_fo_e h
  unfold wpX_sizeAmong
  dsimp only
  exact qm_match_ok (qm_grS h1 hS) h (fun n M ev wt sh a2 a3 a4 a5 h2 h => H _ _ _ _ _ _ _ _ _ h2 h)
/-- what a question leaves behind -/
def qm_H (post : Int32 → St2 → Prop) (ON : Nat) (mk : Int32) (a1 : Nat → Int32) (r : Int32) : Prop := ∀ am bA bB ev wt sh a2 a3 a4 a5 a6, post r (nI ON, am, bA, bB, ev, wt, mk, sh, a1, a2, a3, a4, a5, a6)
noncomputable def qm_size (ON E : Nat) (k : Nat → Bool) : Bool := qm_sz ON E (fun n _ => k n)
theorem qm_size_ok {post : Int32 → St2 → Prop} {am bA bB ev wt mk sh : Int32} {a1 a2 a3 a4 a5 a6 : Nat → Int32} {ON E : Nat} {k : Nat → Bool} (h1 : qm_rows a1 E) (h : qm_size ON E k = true) (H : ∀ n, k n = true → qm_H post ON mk a1 (nI n)) :
    wpX_size post (nI ON, am, bA, bB, ev, wt, mk, sh, a1, a2, a3, a4, a5, a6) := by
  unfold wpX_size
  dsimp only
  exact qm_sz_ok h1 h (fun n M ev wt sh a2 a3 a4 a5 h2 h => H n h _ _ _ _ _ _ _ _ _ _ _)
/-! bits, missed -/
noncomputable def qm_bits (S : Nat) (k : Nat → Bool) : Nat → Nat → Bool :=
  @Nat.rec (fun _ => Nat → Bool) k (fun m ih n => qm_fo (Nat.add n (Nat.land (Nat.shiftRight S (Nat.sub 9 m)) 1)) ih)
theorem qm_bits_s (S : Nat) (k : Nat → Bool) (m n : Nat) : qm_bits S k (m + 1) n = qm_fo (Nat.add n (Nat.land (Nat.shiftRight S (Nat.sub 9 m)) 1)) (qm_bits S k m) := rfl
theorem qm_bits_l {post : Int32 → Prop} {S : Nat} {k : Nat → Bool} (H : ∀ n, k n = true → post (nI n)) : ∀ m i n, i + m = 10 → qm_bits S k m n = true → wX_bits_4 post (nI S) (m + 1) (nI n) (nI i) := by
  intro m
  induction m with
  | zero =>
    intro i n hi h
    exact pk_le 10 i (fun _ => H n h) (fun z => absurd z (by omega))
  | succ m ih =>
    intro i n hi h
    rw [qm_bits_s, qm_sub9 hi] at h
    have h := qm_fo_e h
    refine pk_le 10 i (fun z => absurd z (by omega)) (fun _ => ?_)
    rw [qm_bv S (show i < 31 by omega), nI_add]
    exact nm_e (nm_r (nI_1 i) (ih _ _ (by omega) h))
theorem qm_bits_ok {post : Int32 → Prop} {S : Nat} {k : Nat → Bool} (h : qm_bits S k 10 0 = true) (H : ∀ n, k n = true → post (nI n)) : wpX_bits post () (nI S) := ⟨11, qm_bits_l H 10 0 0 rfl h⟩
noncomputable def qm_missed (ON E : Nat) (k : Nat → Nat → Bool) : Bool := qm_sz ON E (fun n _ => qm_bits ON (k n) 10 0)
theorem qm_missed_ok {post : Int32 → St2 → Prop} {am bA bB ev wt mk sh : Int32} {a1 a2 a3 a4 a5 a6 : Nat → Int32} {ON E : Nat} {k : Nat → Nat → Bool} (h1 : qm_rows a1 E) (h : qm_missed ON E k = true) (H : ∀ n b, k n b = true → qm_H post ON mk a1 (nI b - 2 * nI n)) :
    wpX_missed post (nI ON, am, bA, bB, ev, wt, mk, sh, a1, a2, a3, a4, a5, a6) := by
  unfold wpX_missed
  dsimp only
  exact qm_sz_ok h1 h (fun n M ev wt sh a2 a3 a4 a5 h2 h => qm_bits_ok h (fun b h => H n b h _ _ _ _ _ _ _ _ _ _ _))

/-! freeVertices -/
noncomputable def qm_fr (ON G M : Nat) (k : Nat → Bool) : Nat → Nat → Bool :=
  @Nat.rec (fun _ => Nat → Bool) k
    (fun m ih set => qm_fo (Nat.sub 9 m) fun v => qm_if (qm_tb ON v) (qm_if (Nat.ble (qm_get M v) 9) (ih set) (qm_search ON G M v (fun EV => qm_fo (Nat.lor set EV) ih) (fun _ _ => false))) (ih set))
theorem qm_fr_s (ON G M : Nat) (k : Nat → Bool) (m set : Nat) : qm_fr ON G M k (m + 1) set = qm_fo (Nat.sub 9 m) fun v => qm_if (qm_tb ON v) (qm_if (Nat.ble (qm_get M v) 9) (qm_fr ON G M k m set) (qm_search ON G M v (fun EV => qm_fo (Nat.lor set EV) (qm_fr ON G M k m)) (fun _ _ => false))) (qm_fr ON G M k m set) := rfl
theorem qm_fr_ok {post : Int32 → St2 → Prop} {bA bB mk : Int32} {a1 a2 a6 : Nat → Int32} {ON G M : Nat} {k : Nat → Bool} (hG : qm_gr a1 (nI ON) bA bB G) (h2 : qm_arr a2 M 10) (H : ∀ n, k n = true → qm_H post ON mk a1 (nI n)) :
    ∀ m i set ev wt sh a3 a4 a5, i + m = 10 → qm_fr ON G M k m set = true → wX_freeVertices_13 post (m + 1) (nI set) (nI i) (nI ON) (nI ON) bA bB ev wt mk sh a1 a2 a3 a4 a5 a6 := by
  intro m
  induction m with
  | zero =>
    intro i set ev wt sh a3 a4 a5 hi h
    exact pk_le 10 i (fun _ => H _ h _ _ _ _ _ _ _ _ _ _ _) (fun z => absurd z (by omega))
  | succ m ih =>
    intro i set ev wt sh a3 a4 a5 hi h
    rw [qm_fr_s, qm_sub9 hi] at h
    have h := qm_fo_e h
    have hx : i < 10 := by omega
    refine pk_le 10 i (fun z => absurd z (by omega)) (fun _ => qm_in_n rfl hx h (fun h => ⟨pk_in i 10 hx, ?_⟩) (fun h => nm_r (nI_1 i) (ih _ _ _ _ _ _ _ _ (by omega) h)))
    rw [qm_rdn h2 hx]
    refine qm_br (qm_vI_0le _) h (fun h _ => nm_r (nI_1 i) (ih _ _ _ _ _ _ _ _ (by omega) h)) (fun h _ => ?_)
    rw [← qm_vI_n hx]
    refine qm_search_ok hx hG h2 h (fun EV wt sh a3 a4 a5 h => ?_) (fun w hw P ev wt sh a3 a4 a5 h4 h => absurd h (by decide))
    rw [qm_vI_n hx]
    have h := qm_fo_e h
    exact nm_r (qm_or _ _) (nm_r (nI_1 i) (ih _ _ _ _ _ _ _ _ (by omega) h))
noncomputable def qm_free (ON E : Nat) (k : Nat → Bool) : Bool := qm_sz ON E (fun _ M => qm_fo (Nat.land E (Nat.mul ON 1239150146850664126585242625)) fun G => qm_fr ON G M k 10 0)
theorem qm_free_ok {post : Int32 → St2 → Prop} {am bA bB ev wt mk sh : Int32} {a1 a2 a3 a4 a5 a6 : Nat → Int32} {ON E : Nat} {k : Nat → Bool} (h1 : qm_rows a1 E) (h : qm_free ON E k = true) (H : ∀ n, k n = true → qm_H post ON mk a1 (nI n)) :
    wpX_freeVertices post (nI ON, am, bA, bB, ev, wt, mk, sh, a1, a2, a3, a4, a5, a6) := by
  have hS : ON < 1024 := Nat.lt_succ_of_le (qm_le (qm_ck (show qm_if (Nat.ble ON 1023) _ false = true from h)).1)
  unfold wpX_freeVertices
  dsimp only
  refine qm_sz_ok h1 h (fun n M ev wt sh a2 a3 a4 a5 h2 h => ?_)
  have h := qm_fo_e h
  exact ⟨11, qm_fr_ok (qm_grS h1 hS) h2 H 10 0 0 _ _ _ _ _ _ rfl h⟩

/-! borderVertices -/
noncomputable def qm_bo (ON E fr : Nat) (k : Nat → Bool) : Nat → Nat → Bool :=
  @Nat.rec (fun _ => Nat → Bool) (fun set => qm_fo (qm_del (Nat.land set ON) fr) k)
    (fun m ih set => qm_fo (Nat.sub 9 m) fun v => qm_if (qm_tb fr v) (qm_fo (Nat.lor set (qm_row E v)) ih) (ih set))
theorem qm_bo_s (ON E fr : Nat) (k : Nat → Bool) (m set : Nat) : qm_bo ON E fr k (m + 1) set = qm_fo (Nat.sub 9 m) fun v => qm_if (qm_tb fr v) (qm_fo (Nat.lor set (qm_row E v)) (qm_bo ON E fr k m)) (qm_bo ON E fr k m set) := rfl
theorem qm_bo_0 (ON E fr : Nat) (k : Nat → Bool) (set : Nat) : qm_bo ON E fr k 0 set = qm_fo (qm_del (Nat.land set ON) fr) k := rfl
theorem qm_bo_l {post : Int32 → Prop} {am bA bB ev wt mk sh : Int32} {a1 a2 a3 a4 a5 a6 : Nat → Int32} {ON E fr : Nat} {k : Nat → Bool} (h1 : qm_rows a1 E) (H : ∀ n, k n = true → post (nI n)) :
    ∀ m i set, i + m = 10 → qm_bo ON E fr k m set = true → wX_borderVertices_4 post (nI fr) (nI ON) am bA bB ev wt mk sh a1 a2 a3 a4 a5 a6 (m + 1) (nI set) (nI i) := by
  intro m
  induction m with
  | zero =>
    intro i set hi h
    rw [qm_bo_0] at h
    have h := qm_fo_e h
    refine pk_le 10 i (fun _ => ?_) (fun z => absurd z (by omega))
    rw [qm_and, qm_dl]
    exact H _ h
  | succ m ih =>
    intro i set hi h
    rw [qm_bo_s, qm_sub9 hi] at h
    have h := qm_fo_e h
    have hx : i < 10 := by omega
    refine pk_le 10 i (fun z => absurd z (by omega)) (fun _ => qm_in_n rfl hx h (fun h => ⟨pk_in i 10 hx, ?_⟩) (fun h => nm_r (nI_1 i) (ih _ _ (by omega) h)))
    have h := qm_fo_e h
    rw [qm_rrn h1 hx, qm_or]
    exact nm_e (nm_r (nI_1 i) (ih _ _ (by omega) h))
theorem qm_bo_ok {post : Int32 → Prop} {am bA bB ev wt mk sh : Int32} {a1 a2 a3 a4 a5 a6 : Nat → Int32} {ON E fr : Nat} {k : Nat → Bool} (h1 : qm_rows a1 E) (h : qm_bo ON E fr k 10 0 = true) (H : ∀ n, k n = true → post (nI n)) :
    wpX_borderVertices post (nI ON, am, bA, bB, ev, wt, mk, sh, a1, a2, a3, a4, a5, a6) (nI fr) := by
  unfold wpX_borderVertices
  exact ⟨11, qm_bo_l h1 H 10 0 0 rfl h⟩

/-! members, part, needed -/
noncomputable def qm_mem (p ON E : Nat) (k : Nat → Bool) : Bool :=
  qm_free ON E (fun fr => qm_bo ON E fr (fun bo => qm_if (Nat.beq p 1) (k fr) (qm_if (Nat.beq p 2) (k bo) (qm_fo (qm_del (qm_del ON fr) bo) k))) 10 0)
theorem qm_mem_ok {post : Int32 → St2 → Prop} {am bA bB ev wt mk sh : Int32} {a1 a2 a3 a4 a5 a6 : Nat → Int32} {p ON E : Nat} {k : Nat → Bool} (hp : 1 ≤ p) (hp3 : p ≤ 3) (h1 : qm_rows a1 E) (h : qm_mem p ON E k = true) (H : ∀ n, k n = true → qm_H post ON mk a1 (nI n)) :
    wpX_members post (nI ON, am, bA, bB, ev, wt, mk, sh, a1, a2, a3, a4, a5, a6) (nI p) := by
  unfold qm_mem at h
  unfold wpX_members
  dsimp only
  refine pk_lt p 1 (fun z => absurd z (by omega)) (fun _ => pk_le p 3 (fun _ => ?_) (fun z => absurd z (by omega)))
  refine qm_free_ok h1 h (fun fr h am bA bB ev wt sh a2 a3 a4 a5 a6 => ?_)
  refine qm_bo_ok h1 h (fun bo h => ?_)
  refine qm_br (qm_beq.trans (nI_eq (a := p) (b := 1) (by omega) (by decide)).symm) h (fun h _ => H _ h _ _ _ _ _ _ _ _ _ _ _) (fun h _ => ?_)
  refine qm_br (qm_beq.trans (nI_eq (a := p) (b := 2) (by omega) (by decide)).symm) h (fun h _ => H _ h _ _ _ _ _ _ _ _ _ _ _) (fun h _ => ?_)
  have h := qm_fo_e h
  rw [qm_dl, qm_dl]
  exact H _ h _ _ _ _ _ _ _ _ _ _ _
theorem qm_bad0 {post : Int32 → Prop} {v : Nat} (hv : v < 10) (h : post 0) : wpX_bad post () (nI v) := by
  unfold wpX_bad
  exact pk_lt v 0 (fun z => absurd z (by omega)) (fun _ => pk_lt v 10 (fun _ => h) (fun z => absurd z (by omega)))
noncomputable def qm_part (v ON E : Nat) (k : Nat → Bool) : Bool :=
  qm_if (qm_tb ON v) (qm_free ON E (fun fr => qm_bo ON E fr (fun bo => qm_if (qm_tb fr v) (k 1) (qm_if (qm_tb bo v) (k 2) (k 3))) 10 0)) (k 0)
theorem qm_part_ok {post : Int32 → St2 → Prop} {am bA bB ev wt mk sh : Int32} {a1 a2 a3 a4 a5 a6 : Nat → Int32} {v ON E : Nat} {k : Nat → Bool} (hv : v < 10) (h1 : qm_rows a1 E) (h : qm_part v ON E k = true) (H : ∀ n, k n = true → qm_H post ON mk a1 (nI n)) :
    wpX_part post (nI ON, am, bA, bB, ev, wt, mk, sh, a1, a2, a3, a4, a5, a6) (nI v) := by
  unfold qm_part at h
  unfold wpX_part
  dsimp only
  refine qm_bad0 hv (br_t rfl (qm_in_n rfl hv h (fun h => ?_) (fun h => H 0 h _ _ _ _ _ _ _ _ _ _ _)))
  refine qm_free_ok h1 h (fun fr h am bA bB ev wt sh a2 a3 a4 a5 a6 => ?_)
  refine qm_bo_ok h1 h (fun bo h => ?_)
  refine qm_in_n rfl hv h (fun h => H 1 h _ _ _ _ _ _ _ _ _ _ _) (fun h => ?_)
  exact qm_in_n rfl hv h (fun h => H 2 h _ _ _ _ _ _ _ _ _ _ _) (fun h => H 3 h _ _ _ _ _ _ _ _ _ _ _)
noncomputable def qm_needed (ON E : Nat) (k : Nat → Bool) : Bool := qm_free ON E (fun fr => qm_fo (qm_del ON fr) fun S => qm_bits S k 10 0)
theorem qm_needed_ok {post : Int32 → St2 → Prop} {am bA bB ev wt mk sh : Int32} {a1 a2 a3 a4 a5 a6 : Nat → Int32} {ON E : Nat} {k : Nat → Bool} (h1 : qm_rows a1 E) (h : qm_needed ON E k = true) (H : ∀ n, k n = true → qm_H post ON mk a1 (nI n)) :
    wpX_needed post (nI ON, am, bA, bB, ev, wt, mk, sh, a1, a2, a3, a4, a5, a6) := by
  unfold qm_needed at h
  unfold wpX_needed
  dsimp only
  refine qm_free_ok h1 h (fun fr h am bA bB ev wt sh a2 a3 a4 a5 a6 => ?_)
  have h := qm_fo_e h
  dsimp only
  rw [qm_dl]
  exact qm_bits_ok h (fun b h => H b h _ _ _ _ _ _ _ _ _ _ _)
end
section
/-! groupOf, groups -/
noncomputable def qm_g29 (E fr bf : Nat) (J : Nat → Bool) : Nat → Nat → Bool :=
  @Nat.rec (fun _ => Nat → Bool) J
    (fun m ih set => qm_fo (Nat.sub 9 m) fun u => qm_if (qm_tb bf u) (qm_fo (Nat.lor set (Nat.land (qm_row E u) fr)) ih) (ih set))
theorem qm_g29_s (E fr bf : Nat) (J : Nat → Bool) (m set : Nat) : qm_g29 E fr bf J (m + 1) set = qm_fo (Nat.sub 9 m) fun u => qm_if (qm_tb bf u) (qm_fo (Nat.lor set (Nat.land (qm_row E u) fr)) (qm_g29 E fr bf J m)) (qm_g29 E fr bf J m set) := rfl
noncomputable def qm_g10 (E fr : Nat) (k : Nat → Bool) : Nat → Nat → Nat → Bool :=
  @Nat.rec (fun _ => Nat → Nat → Bool) (fun set _ => k set)
    (fun _ ih set bf => qm_if (Nat.ble set 1023) (qm_if (Nat.beq set bf) (k set) (qm_g29 E fr set (fun s => ih s set) 10 set)) false)
theorem qm_g10_s (E fr : Nat) (k : Nat → Bool) (m set bf : Nat) : qm_g10 E fr k (m + 1) set bf = qm_if (Nat.ble set 1023) (qm_if (Nat.beq set bf) (k set) (qm_g29 E fr set (fun s => qm_g10 E fr k m s set) 10 set)) false := rfl
theorem qm_g29_ok {post : Int32 → Prop} {J10 : Int32 → Int32 → Int32 → Prop} {on am bA bB ev wt mk sh x5 : Int32} {a1 a2 a3 a4 a5 a6 : Nat → Int32} {E fr bf : Nat} {J : Nat → Bool} (h1 : qm_rows a1 E) (H : ∀ s, J s = true → J10 (nI s) (nI bf) (x5 + 1)) :
    ∀ m i set, i + m = 10 → qm_g29 E fr bf J m set = true → wX_groupOf_29 post J10 (nI fr) (nI bf) x5 on am bA bB ev wt mk sh a1 a2 a3 a4 a5 a6 (m + 1) (nI set) (nI i) := by
  intro m
  induction m with
  | zero =>
    intro i set hi h
    exact pk_le 10 i (fun _ => nm_e (H _ h)) (fun z => absurd z (by omega))
  | succ m ih =>
    intro i set hi h
    rw [qm_g29_s, qm_sub9 hi] at h
    have h := qm_fo_e h
    have hx : i < 10 := by omega
    refine pk_le 10 i (fun z => absurd z (by omega)) (fun _ => qm_in_n rfl hx h (fun h => ⟨pk_in i 10 hx, ?_⟩) (fun h => nm_r (nI_1 i) (ih _ _ (by omega) h)))
    have h := qm_fo_e h
    rw [qm_rrn h1 hx, qm_and, qm_or]
    exact nm_e (nm_r (nI_1 i) (ih _ _ (by omega) h))
theorem qm_g10_ok {post : Int32 → Prop} {on am bA bB ev wt mk sh : Int32} {a1 a2 a3 a4 a5 a6 : Nat → Int32} {E fr : Nat} {k : Nat → Bool} (h1 : qm_rows a1 E) (H : ∀ s, k s = true → post (nI s)) :
    ∀ m i set bf, i + m = 10 → bf < 1024 → qm_g10 E fr k m set bf = true → wX_groupOf_10 post (nI fr) on am bA bB ev wt mk sh a1 a2 a3 a4 a5 a6 (m + 1) (nI set) (nI bf) (nI i) := by
  intro m
  induction m with
  | zero =>
    intro i set bf hi hb h
    exact pk_le 10 i (fun _ => H _ h) (fun z => absurd z (by omega))
  | succ m ih =>
    intro i set bf hi hb h
    rw [qm_g10_s] at h
    obtain ⟨hs, h⟩ := qm_ck h
    have hs : set < 1024 := Nat.lt_succ_of_le (qm_le hs)
    refine pk_le 10 i (fun z => absurd z (by omega)) (fun _ => ?_)
    refine qm_br (qm_beq.trans (nI_eq (a := set) (b := bf) (by omega) (by omega)).symm) h (fun h _ => H _ h) (fun h _ => ⟨11, ?_⟩)
    refine qm_g29_ok h1 (fun s h => ?_) 10 0 set rfl h
    rw [nI_1]
    exact ih _ _ _ (by omega) hs h
noncomputable def qm_gp (E fr : Nat) (k : Nat → Bool) : Nat → Nat → Nat → Bool :=
  @Nat.rec (fun _ => Nat → Nat → Bool) (fun _ n => k n)
    (fun m ih left n => qm_fo (Nat.sub 9 m) fun v => qm_if (qm_tb left v) (qm_fo (qm_bit v) fun b => qm_g10 E fr (fun g => qm_fo (qm_del left g) fun l => qm_fo (Nat.succ n) fun n' => ih l n') 10 b 0) (ih left n))
theorem qm_gp_s (E fr : Nat) (k : Nat → Bool) (m left n : Nat) : qm_gp E fr k (m + 1) left n = qm_fo (Nat.sub 9 m) fun v => qm_if (qm_tb left v) (qm_fo (qm_bit v) fun b => qm_g10 E fr (fun g => qm_fo (qm_del left g) fun l => qm_fo (Nat.succ n) fun n' => qm_gp E fr k m l n') 10 b 0) (qm_gp E fr k m left n) := rfl
theorem qm_gp_ok {post : Int32 → St2 → Prop} {am bA bB ev wt mk sh : Int32} {a1 a2 a3 a4 a5 a6 : Nat → Int32} {ON E fr : Nat} {k : Nat → Bool} (h1 : qm_rows a1 E) (H : ∀ n, k n = true → qm_H post ON mk a1 (nI n)) :
    ∀ m i left n, i + m = 10 → qm_gp E fr k m left n = true → wX_groups_12 post (nI fr) (nI ON) am bA bB ev wt mk sh a1 a2 a3 a4 a5 a6 (m + 1) (nI left) (nI n) (nI i) := by
  intro m
  induction m with
  | zero =>
    intro i left n hi h
    exact pk_le 10 i (fun _ => H _ h _ _ _ _ _ _ _ _ _ _ _) (fun z => absurd z (by omega))
  | succ m ih =>
    intro i left n hi h
    rw [qm_gp_s, qm_sub9 hi] at h
    have h := qm_fo_e h
    have hx : i < 10 := by omega
    refine pk_le 10 i (fun z => absurd z (by omega)) (fun _ => qm_in_n rfl hx h (fun h => ?_) (fun h => nm_r (nI_1 i) (ih _ _ _ (by omega) h)))
    have h := qm_fo_e h
    unfold wpX_groupOf
    dsimp only
    refine nm_r (qm_one i hx) ⟨11, qm_g10_ok h1 (fun g h => ?_) 10 0 _ 0 rfl (by omega) h⟩
    have h := qm_fo_e h
    have h := qm_fo_e h
    exact nm_r (qm_dl _ _) (nm_r (nI_1 n) (nm_r (nI_1 i) (ih _ _ _ (by omega) h)))
noncomputable def qm_groups (ON E : Nat) (k : Nat → Bool) : Bool := qm_free ON E (fun fr => qm_gp E fr k 10 fr 0)
theorem qm_groups_ok {post : Int32 → St2 → Prop} {am bA bB ev wt mk sh : Int32} {a1 a2 a3 a4 a5 a6 : Nat → Int32} {ON E : Nat} {k : Nat → Bool} (h1 : qm_rows a1 E) (h : qm_groups ON E k = true) (H : ∀ n, k n = true → qm_H post ON mk a1 (nI n)) :
    wpX_groups post (nI ON, am, bA, bB, ev, wt, mk, sh, a1, a2, a3, a4, a5, a6) := by
  unfold qm_groups at h
  unfold wpX_groups
  dsimp only
  exact qm_free_ok h1 h (fun fr h am bA bB ev wt sh a2 a3 a4 a5 a6 => ⟨11, qm_gp_ok h1 H 10 0 _ 0 rfl h⟩)

/-! firstPartner, findFirst, partner -/
noncomputable def qm_fp (E v left need : Nat) (kn : Bool) (kf : Nat → Bool) : Nat → Bool :=
  @Nat.rec (fun _ => Bool) kn
    (fun m ih => qm_fo (Nat.sub 9 m) fun w => qm_if (qm_tb left w) (qm_if (qm_tb (qm_row E v) w)
      (qm_fo (qm_del (qm_del left (qm_bit v)) (qm_bit w)) fun S => qm_sz S E (fun rest _ => qm_if (Nat.ble rest 9) (qm_if (Nat.beq (Nat.succ rest) need) (kf w) ih) false)) ih) ih)
theorem qm_fp_s (E v left need : Nat) (kn : Bool) (kf : Nat → Bool) (m : Nat) : qm_fp E v left need kn kf (m + 1) = qm_fo (Nat.sub 9 m) fun w => qm_if (qm_tb left w) (qm_if (qm_tb (qm_row E v) w)
      (qm_fo (qm_del (qm_del left (qm_bit v)) (qm_bit w)) fun S => qm_sz S E (fun rest _ => qm_if (Nat.ble rest 9) (qm_if (Nat.beq (Nat.succ rest) need) (kf w) (qm_fp E v left need kn kf m)) false)) (qm_fp E v left need kn kf m)) (qm_fp E v left need kn kf m) := rfl
theorem qm_pred {r n : Nat} (hr : r < 10) (hn : n < 100) : Nat.beq (Nat.succ r) n = true ↔ nI r = nI n - 1 := by
  rw [qm_beq]
  constructor
  · intro h
    rw [← h]
    exact (nI_pred r).symm
  · intro h
    have t : nI (r + 1) = nI n := by
      rw [← nI_1, h]
      grind
    exact (nI_eq (by omega) (by omega)).mp t
theorem qm_fp_ok {post : Int32 → St2 → Prop} {mk : Int32} {a1 a6 : Nat → Int32} {ON E v left need : Nat} {kn : Bool} {kf : Nat → Bool} (hv : v < 10) (hn : need < 100) (h1 : qm_rows a1 E)
    (HN : kn = true → ∀ am bA bB ev wt sh a2 a3 a4 a5, post (-1) (nI ON, am, bA, bB, ev, wt, mk, sh, a1, a2, a3, a4, a5, a6))
    (HF : ∀ w, w < 10 → 0 < need → kf w = true → ∀ am bA bB ev wt sh a2 a3 a4 a5, post (nI w) (nI ON, am, bA, bB, ev, wt, mk, sh, a1, a2, a3, a4, a5, a6)) :
    ∀ m i am bA bB ev wt sh a2 a3 a4 a5, i + m = 10 → qm_fp E v left need kn kf m = true → wX_firstPartner_5 post (nI v) (nI left) (nI need) (m + 1) (nI i) (nI ON) am bA bB ev wt mk sh a1 a2 a3 a4 a5 a6 := by
  intro m
  induction m with
  | zero =>
    intro i am bA bB ev wt sh a2 a3 a4 a5 hi h
    exact pk_le 10 i (fun _ => HN h _ _ _ _ _ _ _ _ _ _) (fun z => absurd z (by omega))
  | succ m ih =>
    intro i am bA bB ev wt sh a2 a3 a4 a5 hi h
    rw [qm_fp_s, qm_sub9 hi] at h
    have h := qm_fo_e h
    have hx : i < 10 := by omega
    refine pk_le 10 i (fun z => absurd z (by omega)) (fun _ => qm_in_n rfl hx h (fun h => ⟨pk_in v 10 hv, ?_⟩) (fun h => nm_r (nI_1 i) (ih _ _ _ _ _ _ _ _ _ _ _ (by omega) h)))
    rw [qm_rrn h1 hv]
    refine qm_in_n rfl hx h (fun h => ?_) (fun h => nm_r (nI_1 i) (ih _ _ _ _ _ _ _ _ _ _ _ (by omega) h))
    have h := qm_fo_e h
    rw [qm_one v hv, qm_one i hx, qm_dl, qm_dl]
    refine qm_sz_ok h1 h (fun n M ev wt sh a2 a3 a4 a5 h2 h => ?_)
    obtain ⟨hr, h⟩ := qm_ck h
    have hr := qm_9 hr
    refine qm_br (qm_pred hr hn) h (fun h t => ?_) (fun h _ => nm_r (nI_1 i) (ih _ _ _ _ _ _ _ _ _ _ _ (by omega) h))
    have t := qm_beq.mp t
    exact HF i hx (by omega) h _ _ _ _ _ _ _ _ _ _
def qm_arw (a : Nat → Int32) (A : Nat) : Prop := ∀ i, i < 10 → a i = qm_wI (qm_get A i)
theorem qm_arw_up {a : Nat → Int32} {A i x : Nat} (h : qm_arw a A) (hx : x < 10) : qm_arw (upd a i (nI x)) (qm_set A i x) := by
  intro j hj
  rw [qm_get_set A i j (show x < 16 by omega)]
  by_cases e : j = i
  · rw [if_pos e, e, pk_us]
    exact (if_pos hx).symm
  · rw [if_neg e, pk_un e]
    exact h j hj
noncomputable def qm_ff (E : Nat) (k : Nat → Bool) : Nat → Nat → Nat → Nat → Bool :=
  @Nat.rec (fun _ => Nat → Nat → Nat → Bool) (fun _ _ F => k F)
    (fun m ih left need F => qm_fo (Nat.sub 9 m) fun v => qm_if (qm_tb left v)
      (qm_fp E v left need (qm_fo (qm_del left (qm_bit v)) fun l => ih l need F)
        (fun w => qm_fo (qm_set F v w) fun F1 => qm_fo (qm_set F1 w v) fun F2 => qm_fo (qm_del (qm_del left (qm_bit v)) (qm_bit w)) fun l => qm_fo (Nat.sub need 1) fun nd => ih l nd F2) m)
      (ih left need F))
theorem qm_ff_s (E : Nat) (k : Nat → Bool) (m left need F : Nat) : qm_ff E k (m + 1) left need F = qm_fo (Nat.sub 9 m) fun v => qm_if (qm_tb left v)
      (qm_fp E v left need (qm_fo (qm_del left (qm_bit v)) fun l => qm_ff E k m l need F)
        (fun w => qm_fo (qm_set F v w) fun F1 => qm_fo (qm_set F1 w v) fun F2 => qm_fo (qm_del (qm_del left (qm_bit v)) (qm_bit w)) fun l => qm_fo (Nat.sub need 1) fun nd => qm_ff E k m l nd F2) m)
      (qm_ff E k m left need F) := rfl
theorem qm_ff_ok {post : St2 → Prop} {mk : Int32} {a1 : Nat → Int32} {ON E : Nat} {k : Nat → Bool} (h1 : qm_rows a1 E)
    (H : ∀ F a6, qm_arw a6 F → k F = true → ∀ am bA bB ev wt sh a2 a3 a4 a5, post (nI ON, am, bA, bB, ev, wt, mk, sh, a1, a2, a3, a4, a5, a6)) :
    ∀ m i left need F am bA bB ev wt sh a2 a3 a4 a5 a6, i + m = 10 → need < 100 → qm_arw a6 F → qm_ff E k m left need F = true → wX_findFirst_38 post (m + 1) (nI left) (nI need) (nI i) (nI ON) am bA bB ev wt mk sh a1 a2 a3 a4 a5 a6 := by
  intro m
  induction m with
  | zero =>
    intro i left need F am bA bB ev wt sh a2 a3 a4 a5 a6 hi hn h6 h
    exact pk_le 10 i (fun _ => H _ _ h6 h _ _ _ _ _ _ _ _ _ _) (fun z => absurd z (by omega))
  | succ m ih =>
    intro i left need F am bA bB ev wt sh a2 a3 a4 a5 a6 hi hn h6 h
    rw [qm_ff_s, qm_sub9 hi] at h
    have h := qm_fo_e h
    have hx : i < 10 := by omega
    refine pk_le 10 i (fun z => absurd z (by omega)) (fun _ => qm_in_n rfl hx h (fun h => ?_) (fun h => nm_r (nI_1 i) (ih _ _ _ _ _ _ _ _ _ _ _ _ _ _ _ (by omega) hn h6 h)))
    unfold wpX_firstPartner
    dsimp only
    refine nm_r (nI_1 i) ⟨m + 1, qm_fp_ok hx hn h1 (fun h am bA bB ev wt sh a2 a3 a4 a5 => ?_) (fun w hw hn0 h am bA bB ev wt sh a2 a3 a4 a5 => ?_) m (i + 1) _ _ _ _ _ _ _ _ _ _ (by omega) h⟩
    · have h := qm_fo_e h
      refine nm_r (e' := nI (qm_del left (qm_bit i))) (by rw [qm_one i hx, qm_dl]) (br_t (by decide) (nm_r (nI_1 i) (ih _ _ _ _ _ _ _ _ _ _ _ _ _ _ _ (by omega) hn h6 h)))
    · have h := qm_fo_e h
      have h := qm_fo_e h
      have h := qm_fo_e h
      have h := qm_fo_e h
      have e1 : upd a6 (nI i).toNatClampNeg (nI w) = upd a6 i (nI w) := by rw [nI_clamp (by omega)]
      have e2 : upd (upd a6 i (nI w)) (nI w).toNatClampNeg (nI i) = upd (upd a6 i (nI w)) w (nI i) := by rw [nI_clamp (by omega)]
      refine nm_r (e' := nI (qm_del left (qm_bit i))) (by rw [qm_one i hx, qm_dl]) (br_f (nI_pos (by omega)) ⟨pk_in i 10 hx, nm_r e1 ⟨pk_in w 10 hw, nm_r e2 ?_⟩⟩)
      refine nm_r (e' := nI (qm_del (qm_del left (qm_bit i)) (qm_bit w))) (by rw [qm_one w hw, qm_dl]) (nm_r (sb_m1 hn0) (nm_r (nI_1 i) ?_))
      exact ih _ _ _ _ _ _ _ _ _ _ _ _ _ _ _ (by omega) (by omega) (qm_arw_up (qm_arw_up h6 hw) hx) h
theorem qm_F0 : ∀ j, j < 10 → -2 = qm_wI (qm_get 733007751850 j) := by decide +kernel
noncomputable def qm_partner (v ON E : Nat) (k : Nat → Bool) : Bool :=
  qm_sz ON E (fun n _ => qm_if (Nat.ble n 9) (qm_ff E (fun F => qm_fo (qm_get F v) k) 10 ON n 733007751850) false)
theorem qm_partner_ok {post : Int32 → St2 → Prop} {am bA bB ev wt mk sh : Int32} {a1 a2 a3 a4 a5 a6 : Nat → Int32} {v ON E : Nat} {k : Nat → Bool} (hv : v < 10) (h1 : qm_rows a1 E) (h : qm_partner v ON E k = true) (H : ∀ n, k n = true → qm_H post ON mk a1 (qm_wI n)) :
    wpX_partner post (nI ON, am, bA, bB, ev, wt, mk, sh, a1, a2, a3, a4, a5, a6) (nI v) := by
  unfold qm_partner at h
  unfold wpX_partner
  dsimp only
  refine qm_bad0 hv (br_t rfl ?_)
  unfold wpX_findFirst
  dsimp only
  refine qm_sz_ok h1 h (fun n M ev wt sh a2 a3 a4 a5 h2 h => ?_)
  obtain ⟨hn, h⟩ := qm_ck h
  have hn := qm_9 hn
  refine pk_loop (fun f i s => wX_findFirst_16 _ (nI ON) (nI n) (nI ON) (nI ON) (-1) (-1) ev wt mk sh f (nI i) a1 a2 a3 a4 a5 s) (fun i s => ∀ j, j < i → s j = -2) 10 0 a6 (by omega) (fun j hj => absurd hj (by omega)) ?_ ?_
  · intro f s hs
    refine pk_le 10 10 (fun _ => ⟨11, ?_⟩) (fun z => absurd z (by omega))
    refine qm_ff_ok h1 (fun F a6 h6 h am bA bB ev wt sh a2 a3 a4 a5 => ⟨pk_in v 10 hv, ?_⟩) 10 0 ON n _ _ _ _ _ _ _ _ _ _ _ _ rfl (by omega) (fun j hj => (hs j hj).trans (qm_F0 j hj)) h
    have h := qm_fo_e h
    dsimp only
    rw [nI_clamp (show v < 2 ^ 31 by omega), h6 v hv]
    exact H _ h _ _ _ _ _ _ _ _ _ _ _
  · intro f i s hi hs hw
    refine pk_le 10 i (fun z => absurd z (by omega)) (fun _ => ⟨pk_in i 10 hi, nm_e (nm_r (nI_1 i) (hw _ ?_))⟩)
    exact qm_fill (f := fun _ => -2) (nI_clamp (by omega)) hs rfl

/-! badPair, noEdge, inSome, inAll, helps -/
theorem qm_bp {A B : Prop} {x y : Bool} {a b : Nat} (ha : a < 10) (hb : b < 10) (h : qm_if (Nat.beq a b) x y = true) (hx : x = true → B) (hy : y = true → A) : wpX_badPair (fun r => (r = 0 → A) ∧ (¬ r = 0 → B)) () (nI a) (nI b) := by
  unfold wpX_badPair
  refine qm_bad0 ha (br_t rfl (qm_bad0 hb (br_t rfl ?_)))
  refine qm_br (qm_beq.trans (nI_eq (a := a) (b := b) (by omega) (by omega)).symm) h (fun h _ => ⟨fun z => absurd z (by decide), fun _ => hx h⟩) (fun h _ => ⟨fun _ => hy h, fun z => absurd rfl z⟩)
noncomputable def qm_ne (a b ON E : Nat) (kt kf : Bool) : Bool := qm_if (Nat.beq a b) kt (qm_if (qm_tb (qm_row E a) b) (qm_if (qm_tb ON a) (qm_if (qm_tb ON b) kf kt) kt) kt)
theorem qm_ne_ok {A B : Prop} {kt kf : Bool} {am bA bB ev wt mk sh : Int32} {a1 a2 a3 a4 a5 a6 : Nat → Int32} {a b ON E : Nat} (ha : a < 10) (hb : b < 10) (h1 : qm_rows a1 E) (h : qm_ne a b ON E kt kf = true) (hx : kt = true → B) (hy : kf = true → A) :
    wpX_noEdge (fun r => (r = 0 → A) ∧ (¬ r = 0 → B)) (nI ON, am, bA, bB, ev, wt, mk, sh, a1, a2, a3, a4, a5, a6) (nI a) (nI b) := by
  unfold qm_ne at h
  unfold wpX_noEdge
  dsimp only
  have P0 : A → ((0 : Int32) = 0 → A) ∧ (¬ (0 : Int32) = 0 → B) := fun a => ⟨fun _ => a, fun z => absurd rfl z⟩
  have P1 : B → ((1 : Int32) = 0 → A) ∧ (¬ (1 : Int32) = 0 → B) := fun b => ⟨fun z => absurd z (by decide), fun _ => b⟩
  refine qm_bp ha hb h (fun h => P1 (hx h)) (fun h => ⟨pk_in a 10 ha, ?_⟩)
  rw [qm_rrn h1 ha]
  refine qm_in_n rfl hb h (fun h => ?_) (fun h => P1 (hx h))
  refine qm_in_n rfl ha h (fun h => ?_) (fun h => P1 (hx h))
  exact qm_in_n rfl hb h (fun h => P0 (hy h)) (fun h => P1 (hx h))
noncomputable def qm_some (a b ON E : Nat) (k : Nat → Bool) : Bool :=
  qm_ne a b ON E (k 0) (qm_sz ON E (fun all _ => qm_if (Nat.ble all 9) (qm_fo (qm_del (qm_del ON (qm_bit a)) (qm_bit b)) fun S => qm_sz S E (fun rest _ => qm_if (Nat.ble rest 9) (qm_if (Nat.beq (Nat.succ rest) all) (k 1) (k 0)) false)) false))
theorem qm_some_ok {post : Int32 → St2 → Prop} {am bA bB ev wt mk sh : Int32} {a1 a2 a3 a4 a5 a6 : Nat → Int32} {a b ON E : Nat} {k : Nat → Bool} (ha : a < 10) (hb : b < 10) (h1 : qm_rows a1 E) (h : qm_some a b ON E k = true) (H : ∀ n, k n = true → qm_H post ON mk a1 (nI n)) :
    wpX_inSome post (nI ON, am, bA, bB, ev, wt, mk, sh, a1, a2, a3, a4, a5, a6) (nI a) (nI b) := by
  unfold qm_some at h
  unfold wpX_inSome
  dsimp only
  refine qm_ne_ok ha hb h1 h (fun h => H 0 h _ _ _ _ _ _ _ _ _ _ _) (fun h => ?_)
  refine qm_sz_ok h1 h (fun all M ev wt sh a2 a3 a4 a5 h2 h => ?_)
  obtain ⟨hA, h⟩ := qm_ck h
  have hA := qm_9 hA
  have h := qm_fo_e h
  dsimp only
  rw [qm_one a ha, qm_one b hb, qm_dl, qm_dl]
  refine qm_sz_ok h1 h (fun rest M ev wt sh a2 a3 a4 a5 h2 h => ?_)
  obtain ⟨hr, h⟩ := qm_ck h
  have hr := qm_9 hr
  dsimp only
  rw [nI_1]
  exact qm_br (qm_beq.trans (nI_eq (a := rest + 1) (b := all) (by omega) (by omega)).symm) h (fun h _ => H 1 h _ _ _ _ _ _ _ _ _ _ _) (fun h _ => H 0 h _ _ _ _ _ _ _ _ _ _ _)
noncomputable def qm_helps (a b ON E : Nat) (k : Nat → Bool) : Bool :=
  qm_if (Nat.beq a b) (k 0) (qm_if (qm_tb (qm_row E a) b) (k 0) (qm_if (qm_tb ON a) (qm_if (qm_tb ON b)
    (qm_sz ON E (fun all _ => qm_if (Nat.ble all 9) (qm_fo (qm_del (qm_del ON (qm_bit a)) (qm_bit b)) fun S => qm_sz S E (fun rest _ => qm_if (Nat.ble rest 9) (qm_if (Nat.beq rest all) (k 1) (k 0)) false)) false)) (k 0)) (k 0)))
theorem qm_helps_ok {post : Int32 → St2 → Prop} {am bA bB ev wt mk sh : Int32} {a1 a2 a3 a4 a5 a6 : Nat → Int32} {a b ON E : Nat} {k : Nat → Bool} (ha : a < 10) (hb : b < 10) (h1 : qm_rows a1 E) (h : qm_helps a b ON E k = true) (H : ∀ n, k n = true → qm_H post ON mk a1 (nI n)) :
    wpX_helps post (nI ON, am, bA, bB, ev, wt, mk, sh, a1, a2, a3, a4, a5, a6) (nI a) (nI b) := by
  unfold qm_helps at h
  unfold wpX_helps
  dsimp only
  have H0 : k 0 = true → post 0 (nI ON, am, bA, bB, ev, wt, mk, sh, a1, a2, a3, a4, a5, a6) := fun h => H 0 h _ _ _ _ _ _ _ _ _ _ _
  refine qm_bp ha hb h H0 (fun h => ⟨pk_in a 10 ha, ?_⟩)
  rw [qm_rrn h1 ha]
  refine qm_in_n rfl hb h H0 (fun h => ?_)
  refine qm_in_n rfl ha h (fun h => ?_) H0
  refine qm_in_n rfl hb h (fun h => ?_) H0
  refine qm_sz_ok h1 h (fun all M ev wt sh a2 a3 a4 a5 h2 h => ?_)
  obtain ⟨hA, h⟩ := qm_ck h
  have hA := qm_9 hA
  have h := qm_fo_e h
  dsimp only
  rw [qm_one a ha, qm_one b hb, qm_dl, qm_dl]
  refine qm_sz_ok h1 h (fun rest M ev wt sh a2 a3 a4 a5 h2 h => ?_)
  obtain ⟨hr, h⟩ := qm_ck h
  have hr := qm_9 hr
  exact qm_br (qm_beq.trans (nI_eq (a := rest) (b := all) (by omega) (by omega)).symm) h (fun h _ => H 1 h _ _ _ _ _ _ _ _ _ _ _) (fun h _ => H 0 h _ _ _ _ _ _ _ _ _ _ _)
theorem qm_bit_t : ∀ x, x < 10 → ∀ w, w < 10 → (qm_bit x).testBit w = decide (w = x) := by decide +kernel
theorem qm_tb_del (s : Nat) {x w : Nat} (hx : x < 10) (hw : w < 10) : qm_tb (qm_del s (qm_bit x)) w = true ↔ qm_tb s w = true ∧ ¬ w = x := by
  rw [qm_tb_t, qm_tb_t]
  show (s ^^^ (s &&& qm_bit x)).testBit w = true ↔ _
  rw [Nat.testBit_xor, Nat.testBit_and, qm_bit_t x hx w hw]
  by_cases e : w = x
  · rw [decide_eq_true e]
    cases s.testBit w <;> simp [e]
  · rw [decide_eq_false e]
    cases s.testBit w <;> simp [e]
/-- a graph without one edge -/
def qm_cut (G a b : Nat) : Nat := qm_rset (qm_rset G a (qm_del (qm_row G a) (qm_bit b))) b (qm_del (qm_row (qm_rset G a (qm_del (qm_row G a) (qm_bit b))) b) (qm_bit a))
theorem qm_cut_t {G a b v w : Nat} (ha : a < 10) (hb : b < 10) (hab : ¬ a = b) (hw : w < 10) : qm_tb (qm_row (qm_cut G a b) v) w = true ↔ qm_tb (qm_row G v) w = true ∧ ¬ (v = a ∧ w = b) ∧ ¬ (v = b ∧ w = a) := by
  unfold qm_cut
  rw [qm_row_set _ _ v (qm_del_lt (qm_row_lt _ _)), qm_row_set _ _ v (qm_del_lt (qm_row_lt _ _)), qm_row_set _ _ b (qm_del_lt (qm_row_lt _ _)), if_neg (show ¬ b = a from fun z => hab z.symm)]
  by_cases e1 : v = b
  · subst e1
    rw [if_pos rfl, qm_tb_del _ ha hw]
    exact ⟨fun t => ⟨t.1, fun z => hab z.1.symm, fun z => t.2 z.2⟩, fun t => ⟨t.1, fun z => t.2.2 ⟨rfl, z⟩⟩⟩
  · rw [if_neg e1]
    by_cases e2 : v = a
    · subst e2
      rw [if_pos rfl, qm_tb_del _ hb hw]
      exact ⟨fun t => ⟨t.1, fun z => t.2 z.2, fun z => e1 z.1⟩, fun t => ⟨t.1, fun z => t.2.1 ⟨rfl, z⟩⟩⟩
    · rw [if_neg e2]
      exact ⟨fun t => ⟨t, fun z => e2 z.1, fun z => e1 z.1⟩, fun t => t.1⟩
theorem qm_grC {a1 : Nat → Int32} {G S a b : Nat} (ha : a < 10) (hb : b < 10) (hab : ¬ a = b) (h : qm_gr a1 (nI S) (-1) (-1) G) : qm_gr a1 (nI S) (nI a) (nI b) (qm_cut G a b) := by
  intro v w hv hw
  rw [qm_cut_t ha hb hab hw, h v w hv hw, nI_eq (a := v) (b := a) (by omega) (by omega), nI_eq (a := w) (b := b) (by omega) (by omega), nI_eq (a := v) (b := b) (by omega) (by omega), nI_eq (a := w) (b := a) (by omega) (by omega)]
  exact ⟨fun t => ⟨t.2.1, t.2.2, t.1.2.2.1, t.1.2.2.2⟩, fun t => ⟨⟨fun z => qm_neg1 v hv z.1, fun z => qm_neg1 v hv z.1, t.2.2.1, t.2.2.2⟩, t.1, t.2.1⟩⟩
noncomputable def qm_all (a b ON E : Nat) (k : Nat → Bool) : Bool :=
  qm_ne a b ON E (k 0) (qm_sz ON E (fun all _ => qm_if (Nat.ble all 9) (qm_if (Nat.beq a b) false (qm_fo (qm_cut (Nat.land E (Nat.mul ON 1239150146850664126585242625)) a b) fun G => qm_match ON G (fun rest _ => qm_if (Nat.ble rest 9) (qm_if (Nat.ble all rest) (k 0) (k 1)) false))) false))
theorem qm_all_ok {post : Int32 → St2 → Prop} {am bA bB ev wt mk sh : Int32} {a1 a2 a3 a4 a5 a6 : Nat → Int32} {a b ON E : Nat} {k : Nat → Bool} (ha : a < 10) (hb : b < 10) (hO : ON < 1024) (h1 : qm_rows a1 E) (h : qm_all a b ON E k = true) (H : ∀ n, k n = true → qm_H post ON mk a1 (nI n)) :
    wpX_inAll post (nI ON, am, bA, bB, ev, wt, mk, sh, a1, a2, a3, a4, a5, a6) (nI a) (nI b) := by
  unfold qm_all at h
  unfold wpX_inAll
  dsimp only
  refine qm_ne_ok ha hb h1 h (fun h => H 0 h _ _ _ _ _ _ _ _ _ _ _) (fun h => ?_)
  refine qm_sz_ok h1 h (fun all M ev wt sh a2 a3 a4 a5 h2 h => ?_)
  obtain ⟨hA, h⟩ := qm_ck h
  have hA := qm_9 hA
  rcases qm_if_e h with ⟨_, h⟩ | ⟨hab, h⟩
  · exact absurd h (by decide)
  have hab : ¬ a = b := by
    intro z
    rw [qm_beq.mpr z] at hab
    exact absurd hab (by decide)
  have h := qm_fo_e h
  dsimp only
  refine qm_match_ok (qm_grC ha hb hab (qm_grS h1 hO)) h (fun rest M ev wt sh a2 a3 a4 a5 h2 h => ?_)
  obtain ⟨hr, h⟩ := qm_ck h
  have hr := qm_9 hr
  rcases qm_if_e h with ⟨c, h⟩ | ⟨c, h⟩
  · have c := qm_le c
    exact pk_le all rest (fun _ => H 0 h _ _ _ _ _ _ _ _ _ _ _) (fun z => absurd z (by omega))
  · have c := qm_nle c
    exact pk_le all rest (fun z => absurd z (by omega)) (fun _ => H 1 h _ _ _ _ _ _ _ _ _ _ _)
end
section
/-! setEdge, edge -/
noncomputable def qm_se0 (a b E : Nat) (k : Nat → Nat → Bool) : Bool :=
  qm_fo (qm_row E a) fun ra => qm_fo (qm_rset E a (qm_del ra (qm_bit b))) fun E1 => qm_fo (qm_rset E1 b (qm_del (qm_row E1 b) (qm_bit a))) fun E2 => qm_fo (Nat.land (Nat.shiftRight ra b) 1) fun old => k old E2
noncomputable def qm_se1 (a b E : Nat) (k : Nat → Nat → Bool) : Bool :=
  qm_se0 a b E (fun old E2 => qm_fo (qm_rset E2 a (Nat.lor (qm_row E2 a) (qm_bit b))) fun E3 => qm_fo (qm_rset E3 b (Nat.lor (qm_row E3 b) (qm_bit a))) fun E4 => k old E4)
theorem qm_se_e0 {a1 : Nat → Int32} {E a b : Nat} (ha : a < 10) (hb : b < 10) (h1 : qm_rows a1 E) : ((a1 (nI a).toNatClampNeg) >>> (nI b &&& 31)) &&& 1 = nI (Nat.land (Nat.shiftRight (qm_row E a) b) 1) := by
  rw [qm_rrn h1 ha, qm_bv _ (show b < 31 by omega)]
theorem qm_se_e1 {a1 : Nat → Int32} {E a b : Nat} (ha : a < 10) (hb : b < 10) (h1 : qm_rows a1 E) : upd a1 (nI a).toNatClampNeg ((a1 (nI a).toNatClampNeg) &&& (((1 : Int32) <<< (nI b &&& 31)) ^^^ (-1))) = upd a1 a (nI (qm_del (qm_row E a) (qm_bit b))) := by
  rw [qm_rrn h1 ha, qm_one b hb, qm_dl, nI_clamp (by omega)]
theorem qm_se_e2 {a1 : Nat → Int32} {E a b : Nat} (ha : a < 10) (hb : b < 10) (h1 : qm_rows a1 E) : upd a1 (nI a).toNatClampNeg ((a1 (nI a).toNatClampNeg) ||| ((1 : Int32) <<< (nI b &&& 31))) = upd a1 a (nI (Nat.lor (qm_row E a) (qm_bit b))) := by
  rw [qm_rrn h1 ha, qm_one b hb, qm_or, nI_clamp (by omega)]
theorem qm_se_r1 {a1 : Nat → Int32} {E a b : Nat} (h1 : qm_rows a1 E) : qm_rows (upd a1 a (nI (qm_del (qm_row E a) (qm_bit b)))) (qm_rset E a (qm_del (qm_row E a) (qm_bit b))) := qm_rows_up h1 (qm_del_lt (qm_row_lt E a))
theorem qm_se_r2 {a1 : Nat → Int32} {E a b : Nat} (hb : b < 10) (h1 : qm_rows a1 E) : qm_rows (upd a1 a (nI (Nat.lor (qm_row E a) (qm_bit b)))) (qm_rset E a (Nat.lor (qm_row E a) (qm_bit b))) := qm_rows_up h1 (qm_lor_lt (qm_row_lt E a) (qm_bit_lt b hb))
theorem qm_se0_ok {post : Int32 → St2 → Prop} {on am bA bB ev wt mk sh : Int32} {a1 a2 a3 a4 a5 a6 : Nat → Int32} {a b E : Nat} {k : Nat → Nat → Bool} (ha : a < 10) (hb : b < 10) (h1 : qm_rows a1 E) (h : qm_se0 a b E k = true)
    (H : ∀ old E' a1', qm_rows a1' E' → k old E' = true → post (nI old) (on, am, bA, bB, ev, wt, mk, sh, a1', a2, a3, a4, a5, a6)) :
    wpX_setEdge post (on, am, bA, bB, ev, wt, mk, sh, a1, a2, a3, a4, a5, a6) (nI a) (nI b) 0 := by
  unfold qm_se0 at h
  have h := qm_fo_e h
  have h := qm_fo_e h
  have h := qm_fo_e h
  have h := qm_fo_e h
  unfold wpX_setEdge
  dsimp only
  have g1 := qm_se_r1 (a := a) (b := b) h1
  have g2 := qm_se_r1 (a := b) (b := a) g1
  have A := pk_in a 10 ha
  have B := pk_in b 10 hb
  exact ⟨A, nm_r (qm_se_e0 ha hb h1) ⟨A, A, nm_r (qm_se_e1 ha hb h1) ⟨B, B, nm_r (qm_se_e1 hb ha g1) (br_t rfl (H _ _ _ g2 h))⟩⟩⟩
theorem qm_se1_ok {post : Int32 → St2 → Prop} {on am bA bB ev wt mk sh : Int32} {a1 a2 a3 a4 a5 a6 : Nat → Int32} {a b E : Nat} {k : Nat → Nat → Bool} (ha : a < 10) (hb : b < 10) (h1 : qm_rows a1 E) (h : qm_se1 a b E k = true)
    (H : ∀ old E' a1', qm_rows a1' E' → k old E' = true → post (nI old) (on, am, bA, bB, ev, wt, mk, sh, a1', a2, a3, a4, a5, a6)) :
    wpX_setEdge post (on, am, bA, bB, ev, wt, mk, sh, a1, a2, a3, a4, a5, a6) (nI a) (nI b) 1 := by
  unfold qm_se1 qm_se0 at h
  have h := qm_fo_e h
  have h := qm_fo_e h
  have h := qm_fo_e h
  have h := qm_fo_e h
  have h := qm_fo_e h
  have h := qm_fo_e h
  unfold wpX_setEdge
  dsimp only
  have g1 := qm_se_r1 (a := a) (b := b) h1
  have g2 := qm_se_r1 (a := b) (b := a) g1
  have g3 := qm_se_r2 (a := a) (b := b) hb g2
  have g4 := qm_se_r2 (a := b) (b := a) ha g3
  have A := pk_in a 10 ha
  have B := pk_in b 10 hb
  exact ⟨A, nm_r (qm_se_e0 ha hb h1) ⟨A, A, nm_r (qm_se_e1 ha hb h1) ⟨B, B, nm_r (qm_se_e1 hb ha g1) (br_f (by decide) ⟨A, A, nm_r (qm_se_e2 ha hb g2) ⟨B, B, nm_r (qm_se_e2 hb ha g3) (H _ _ _ g4 h)⟩⟩)⟩⟩⟩
noncomputable def qm_ed0 (a b E : Nat) (k : Nat → Nat → Bool) : Bool := qm_if (Nat.beq a b) false (qm_se0 a b E k)
noncomputable def qm_ed1 (a b E : Nat) (k : Nat → Nat → Bool) : Bool := qm_if (Nat.beq a b) false (qm_se1 a b E k)
theorem qm_ed0_ok {post : Int32 → St2 → Prop} {on am bA bB ev wt mk sh : Int32} {a1 a2 a3 a4 a5 a6 : Nat → Int32} {a b E : Nat} {k : Nat → Nat → Bool} (ha : a < 10) (hb : b < 10) (h1 : qm_rows a1 E) (h : qm_ed0 a b E k = true)
    (H : ∀ old E' a1', qm_rows a1' E' → k old E' = true → post (nI old) (on, am, bA, bB, ev, wt, mk, sh, a1', a2, a3, a4, a5, a6)) :
    wpX_edge post (on, am, bA, bB, ev, wt, mk, sh, a1, a2, a3, a4, a5, a6) (nI a) (nI b) 0 := by
  unfold qm_ed0 at h
  unfold wpX_edge
  dsimp only
  exact qm_bp ha hb h (fun h => absurd h (by decide)) (fun h => qm_se0_ok ha hb h1 h (fun old E' a1' g h => H old E' a1' g h))
theorem qm_ed1_ok {post : Int32 → St2 → Prop} {on am bA bB ev wt mk sh : Int32} {a1 a2 a3 a4 a5 a6 : Nat → Int32} {a b E : Nat} {k : Nat → Nat → Bool} (ha : a < 10) (hb : b < 10) (h1 : qm_rows a1 E) (h : qm_ed1 a b E k = true)
    (H : ∀ old E' a1', qm_rows a1' E' → k old E' = true → post (nI old) (on, am, bA, bB, ev, wt, mk, sh, a1', a2, a3, a4, a5, a6)) :
    wpX_edge post (on, am, bA, bB, ev, wt, mk, sh, a1, a2, a3, a4, a5, a6) (nI a) (nI b) 1 := by
  unfold qm_ed1 at h
  unfold wpX_edge
  dsimp only
  exact qm_bp ha hb h (fun h => absurd h (by decide)) (fun h => qm_se1_ok ha hb h1 h (fun old E' a1' g h => H old E' a1' g h))

/-! turn -/
theorem qm_turn0_ok {post : Int32 → St2 → Prop} {am bA bB ev wt mk sh : Int32} {a1 a2 a3 a4 a5 a6 : Nat → Int32} {v ON : Nat} (hv : v < 10)
    (H : post (nI (Nat.land (Nat.shiftRight ON v) 1)) (nI (qm_del ON (qm_bit v)), am, bA, bB, ev, wt, mk, sh, a1, a2, a3, a4, a5, a6)) :
    wpX_turn post (nI ON, am, bA, bB, ev, wt, mk, sh, a1, a2, a3, a4, a5, a6) (nI v) 0 := by
  unfold wpX_turn
  dsimp only
  rw [qm_bv ON (show v < 31 by omega), qm_one v hv, qm_dl]
  exact qm_bad0 hv (br_t rfl (nm_e (nm_e (br_t rfl H))))
theorem qm_turn1_ok {post : Int32 → St2 → Prop} {am bA bB ev wt mk sh : Int32} {a1 a2 a3 a4 a5 a6 : Nat → Int32} {v ON : Nat} (hv : v < 10)
    (H : post (nI (Nat.land (Nat.shiftRight ON v) 1)) (nI (Nat.lor (qm_del ON (qm_bit v)) (qm_bit v)), am, bA, bB, ev, wt, mk, sh, a1, a2, a3, a4, a5, a6)) :
    wpX_turn post (nI ON, am, bA, bB, ev, wt, mk, sh, a1, a2, a3, a4, a5, a6) (nI v) 1 := by
  unfold wpX_turn
  dsimp only
  rw [qm_bv ON (show v < 31 by omega), qm_one v hv, qm_dl]
  exact qm_bad0 hv (br_t rfl (nm_e (nm_e (br_f (by decide) (nm_r (qm_or _ _) H)))))

/-! clear, circle(0, 9) -/
theorem qm_row0 : ∀ j, j < 10 → (0 : Int32) = nI (qm_row 0 j) := by decide +kernel
theorem qm_clear_ok {post : St2 → Prop} {on am bA bB ev wt mk sh : Int32} {a1 a2 a3 a4 a5 a6 : Nat → Int32}
    (H : ∀ a1', qm_rows a1' 0 → post (nI 1023, am, bA, bB, ev, wt, mk, sh, a1', a2, a3, a4, a5, a6)) :
    wpX_clear post (on, am, bA, bB, ev, wt, mk, sh, a1, a2, a3, a4, a5, a6) := by
  unfold wpX_clear
  dsimp only
  refine pk_loop (fun n i s => wX_clear_9 post 1023 am bA bB ev wt mk sh n (nI i) s a2 a3 a4 a5 a6) (fun i s => ∀ j, j < i → s j = 0) 10 0 a1 (by omega) (fun j hj => absurd hj (by omega)) ?_ ?_
  · intro n s hs
    exact pk_le 10 10 (fun _ => H s (fun j hj => (hs j hj).trans (qm_row0 j hj))) (fun z => absurd z (by omega))
  · intro n i s hi hs hw
    refine pk_le 10 i (fun z => absurd z (by omega)) (fun _ => ⟨pk_in i 10 hi, nm_e (nm_r (nI_1 i) (hw _ ?_))⟩)
    exact qm_fill (f := fun _ => 0) (nI_clamp (by omega)) hs rfl
noncomputable def qm_ci (k : Nat → Nat → Bool) : Nat → Nat → Nat → Bool :=
  @Nat.rec (fun _ => Nat → Nat → Bool) k
    (fun m ih n E => qm_fo (Nat.sub 8 m) fun v => qm_se1 v (Nat.succ v) E (fun old E' => qm_if (Nat.ble old 1) (qm_fo (Nat.add n (Nat.sub 1 old)) fun n' => ih n' E') false))
theorem qm_ci_s (k : Nat → Nat → Bool) (m n E : Nat) : qm_ci k (m + 1) n E = qm_fo (Nat.sub 8 m) fun v => qm_se1 v (Nat.succ v) E (fun old E' => qm_if (Nat.ble old 1) (qm_fo (Nat.add n (Nat.sub 1 old)) fun n' => qm_ci k m n' E') false) := rfl
theorem qm_ci_ok {post : Int32 → St2 → Prop} {on am bA bB ev wt mk sh : Int32} {a2 a3 a4 a5 a6 : Nat → Int32} {k : Nat → Nat → Bool}
    (H : ∀ n E a1, qm_rows a1 E → k n E = true → post (nI n) (on, am, bA, bB, ev, wt, mk, sh, a1, a2, a3, a4, a5, a6)) :
    ∀ m i n E a1, i + m = 9 → qm_rows a1 E → qm_ci k m n E = true → wX_circle_36 post (nI 9) (m + 1) (nI n) (nI i) on am bA bB ev wt mk sh a1 a2 a3 a4 a5 a6 := by
  intro m
  induction m with
  | zero =>
    intro i n E a1 hi h1 h
    exact pk_le 9 i (fun _ => H _ _ _ h1 h) (fun z => absurd z (by omega))
  | succ m ih =>
    intro i n E a1 hi h1 h
    have e : Nat.sub 8 m = i := by
      show 8 - m = i
      omega
    rw [qm_ci_s, e] at h
    have h := qm_fo_e h
    refine pk_le 9 i (fun z => absurd z (by omega)) (fun _ => ?_)
    rw [nI_1]
    refine qm_se1_ok (show i < 10 by omega) (show i + 1 < 10 by omega) h1 h (fun old E' a1' g h => ?_)
    obtain ⟨ho, h⟩ := qm_ck h
    have ho := qm_le ho
    have h := qm_fo_e h
    exact nm_r (e' := nI (n + (1 - old))) (by rw [show (1 : Int32) = nI 1 from rfl, pk_sub ho, nI_add]) (nm_r (by rfl) (ih _ _ _ _ (by omega) g h))
noncomputable def qm_circle (E : Nat) (k : Nat → Nat → Bool) : Bool := qm_se1 9 0 E (fun old E' => qm_if (Nat.ble old 1) (qm_fo (Nat.sub 1 old) fun n => qm_ci k 9 n E') false)
theorem qm_circle_ok {post : Int32 → St2 → Prop} {on am bA bB ev wt mk sh : Int32} {a1 a2 a3 a4 a5 a6 : Nat → Int32} {E : Nat} {k : Nat → Nat → Bool} (h1 : qm_rows a1 E) (h : qm_circle E k = true)
    (H : ∀ n E a1, qm_rows a1 E → k n E = true → post (nI n) (on, am, bA, bB, ev, wt, mk, sh, a1, a2, a3, a4, a5, a6)) :
    wpX_circle post (on, am, bA, bB, ev, wt, mk, sh, a1, a2, a3, a4, a5, a6) 0 9 := by
  unfold qm_circle at h
  unfold wpX_circle
  dsimp only
  refine qm_bad0 (v := 0) (by decide) (br_t rfl (qm_bad0 (v := 9) (by decide) (br_t rfl (br_t (by decide) ?_))))
  refine qm_se1_ok (a := 9) (b := 0) (by decide) (by decide) h1 h (fun old E' a1' g h => ?_)
  obtain ⟨ho, h⟩ := qm_ck h
  have ho := qm_le ho
  have h := qm_fo_e h
  exact nm_r (e' := nI (1 - old)) (by rw [show (1 : Int32) = nI 1 from rfl, pk_sub ho]) ⟨10, qm_ci_ok H 9 0 _ _ _ rfl g h⟩
end
section
/-! the law's checks over the pictures -/
noncomputable def qm_alln (f : Nat → Bool) (n : Nat) : Bool := @Nat.rec (fun _ => Bool) true (fun m ih => qm_if (f m) ih false) n
theorem qm_alln_e {f : Nat → Bool} : ∀ n, qm_alln f n = true → ∀ v, v < n → f v = true := by
  intro n
  induction n with
  | zero =>
    intro _ v hv
    exact absurd hv (by omega)
  | succ n ih =>
    intro h v hv
    obtain ⟨h1, h2⟩ := qm_ck (show qm_if (f n) (qm_alln f n) false = true from h)
    by_cases e : v = n
    · rw [e]
      exact h1
    · exact ih h2 v (by omega)
/-- the circle, a vertex turned off -/
noncomputable def qm_p3b (E v : Nat) : Bool :=
  qm_fo (qm_del 1023 (qm_bit v)) fun ON =>
  qm_size ON E fun r => qm_if (Nat.beq r 4) (
  qm_mem 1 ON E fun r => qm_if (Nat.ble 1 r) (qm_if (Nat.ble r 1023) (
  qm_fo (Nat.mod (Nat.add v 1) 10) fun w => qm_part w ON E fun r => qm_if (Nat.beq r 1) (
  qm_fo (Nat.mod (Nat.add v 2) 10) fun w => qm_part w ON E fun r => qm_if (Nat.beq r 2) (
  qm_groups ON E fun r => Nat.beq r 5) false) false) false) false) false
/-- the circle's partners -/
noncomputable def qm_p3l (E : Nat) (k : Bool) : Nat → Bool :=
  @Nat.rec (fun _ => Bool) k (fun m ih => qm_fo (Nat.mul 2 (Nat.sub 4 m)) fun a => qm_fo (Nat.succ a) fun b =>
    qm_partner a 1023 E fun r => qm_if (Nat.beq r b) (qm_partner b 1023 E fun r => qm_if (Nat.beq r a) ih false) false)
theorem qm_p3l_s (E : Nat) (k : Bool) (m : Nat) : qm_p3l E k (m + 1) = qm_fo (Nat.mul 2 (Nat.sub 4 m)) fun a => qm_fo (Nat.succ a) fun b =>
    qm_partner a 1023 E fun r => qm_if (Nat.beq r b) (qm_partner b 1023 E fun r => qm_if (Nat.beq r a) (qm_p3l E k m) false) false := rfl
/-- behind clear -/
noncomputable def qm_p3 (k : Nat → Bool) : Bool :=
  qm_size 1023 0 fun r => qm_if (Nat.beq r 0) (
  qm_groups 1023 0 fun r => qm_if (Nat.beq r 10) (
  qm_circle 0 fun r E => qm_if (Nat.beq r 10) (
  qm_circle E fun r E => qm_if (Nat.beq r 0) (
  qm_size 1023 E fun r => qm_if (Nat.beq r 5) (
  qm_mem 3 1023 E fun r => qm_if (Nat.beq r 1023) (
  qm_groups 1023 E fun r => qm_if (Nat.beq r 0) (k E) false) false) false) false) false) false) false
noncomputable def qm_zz (hub rays one two v : Nat) (k : Nat → Bool) : Bool :=
  qm_if (Nat.ble rays 2) (k 1) (qm_if (Nat.beq v hub) (k 1) (qm_if (Nat.beq v one) (k 1) (qm_if (Nat.beq v two) (k 1) (qm_if (Nat.beq rays 3) (qm_if (Nat.beq v (Nat.mod (Nat.add hub 3) 10)) (k 1) (k 2)) (k 2)))))
noncomputable def qm_p2b (ON E hub one v z : Nat) : Bool :=
  qm_size ON E fun n => qm_if (Nat.beq n z) (
  qm_missed ON E fun n b => qm_if (Nat.beq (Nat.add b (Nat.mul 2 z)) (Nat.add 9 (Nat.mul 2 n))) (
  qm_if (Nat.beq (Nat.land (Nat.shiftRight ON v) 1) 0) (
  qm_ed0 hub one E fun old E2 => qm_if (Nat.beq old 1) (
  qm_ed0 hub one E2 fun old _ => Nat.beq old 0) false) false) false) false
/-- a vertex turned off -/
noncomputable def qm_p2 (E hub rays one two v : Nat) : Bool :=
  qm_fo (qm_del 1023 (qm_bit v)) fun ON =>
  qm_part v ON E fun r => qm_if (Nat.beq r 0) (
  qm_partner v ON E fun r => qm_if (Nat.ble r 9) false (
  qm_some v hub ON E fun r => qm_if (Nat.beq r 0) (
  qm_fo (Nat.mod (Nat.add v 5) 10) fun w => qm_helps v w ON E fun r => qm_if (Nat.beq r 0) (
  qm_zz hub rays one two v (qm_p2b ON E hub one v)) false) false)) false
/-- the star and one edge -/
noncomputable def qm_p1e (E hub rays one two P N G : Nat) : Bool :=
  qm_part hub 1023 E fun r => qm_if (Nat.beq r P) (
  qm_needed 1023 E fun r => qm_if (Nat.beq r N) (
  qm_groups 1023 E fun r => qm_if (Nat.beq r G) (qm_alln (qm_p2 E hub rays one two) 10) false) false) false
noncomputable def qm_p1d (E hub rays one two : Nat) : Bool :=
  qm_if (Nat.ble rays 2)
   (qm_all one two 1023 E fun r => qm_if (Nat.beq r 0) (
    qm_part hub 1023 E fun r => qm_if (Nat.beq r 1) (
    qm_groups 1023 E fun r => qm_if (Nat.beq r 8) (
    qm_needed 1023 E fun r => qm_if (Nat.beq r 0) (qm_alln (qm_p2 E hub rays one two) 10) false) false) false) false)
   (qm_all one two 1023 E fun r => qm_if (Nat.beq r 1) (
    qm_part one 1023 E fun r => qm_if (Nat.beq r 3) (
    qm_if (Nat.beq rays 3) (qm_p1e E hub rays one two 3 4 6) (qm_p1e E hub rays one two 2 3 7)) false) false)
noncomputable def qm_p1c (E hub rays one two : Nat) : Bool :=
  qm_helps hub one 1023 E fun r => qm_if (Nat.beq r 0) (
  qm_helps one one 1023 E fun r => qm_if (Nat.beq r 0) (
  qm_some one two 1023 E fun r => qm_if (Nat.beq r 0) (
  qm_ed1 one two E fun old E1 => qm_if (Nat.beq old 0) (
  qm_size 1023 E1 fun r => qm_if (Nat.ble rays 2) (qm_if (Nat.beq r 1) (qm_p1d E1 hub rays one two) false) (qm_if (Nat.beq r 2) (qm_p1d E1 hub rays one two) false)) false) false) false) false
/-- the star -/
noncomputable def qm_p1b (E hub rays low : Nat) : Bool :=
  qm_if (Nat.ble low 9) (
  qm_size 1023 E fun r => qm_if (Nat.beq r 1) (
  qm_missed 1023 E fun n b => qm_if (Nat.beq b (Nat.add 8 (Nat.mul 2 n))) (
  qm_mem 2 1023 E fun r => qm_if (Nat.beq r (qm_bit hub)) (
  qm_mem 3 1023 E fun r => qm_if (Nat.beq r 0) (
  qm_mem 1 1023 E fun r => qm_if (Nat.beq r (qm_del 1023 (qm_bit hub))) (
  qm_groups 1023 E fun r => qm_if (Nat.beq r 9) (
  qm_partner hub 1023 E fun r => qm_if (Nat.beq r low) (
  qm_partner low 1023 E fun r => qm_if (Nat.beq r hub) (
  qm_needed 1023 E fun r => qm_if (Nat.beq r 1) (
  qm_fo (Nat.mod (Nat.add hub 1) 10) fun one => qm_fo (Nat.mod (Nat.add hub 2) 10) fun two =>
  qm_some one hub 1023 E fun r => qm_if (Nat.beq r 1) (
  qm_all hub one 1023 E fun r => qm_if (Nat.beq r 0) (
  qm_helps one two 1023 E fun r => qm_if (Nat.ble rays 2) (qm_if (Nat.beq r 0) (qm_p1c E hub rays one two) false) (qm_if (Nat.beq r 1) (qm_p1c E hub rays one two) false))
  false) false) false) false) false) false) false) false) false) false) false) false
/-- the law's first loop: i + m = 10 -/
noncomputable def qm_p1 (hub rays : Nat) : Nat → Nat → Nat → Bool :=
  @Nat.rec (fun _ => Nat → Nat → Bool) (fun low E => qm_p1b E hub rays low)
    (fun m ih low E => qm_fo (Nat.sub 9 m) fun i => qm_fo (Nat.mod (Nat.add hub i) 10) fun v => qm_if (Nat.ble i rays)
      (qm_ed1 hub v E fun old E1 => qm_if (Nat.beq old 0) (qm_ed1 v hub E1 fun old E2 => qm_if (Nat.beq old 1)
        (qm_if (Nat.ble low 9) (qm_if (Nat.ble low v) (ih low E2) (ih v E2)) (ih v E2)) false) false)
      (ih low E))
theorem qm_p1_s (hub rays m low E : Nat) : qm_p1 hub rays (m + 1) low E = qm_fo (Nat.sub 9 m) fun i => qm_fo (Nat.mod (Nat.add hub i) 10) fun v => qm_if (Nat.ble i rays)
      (qm_ed1 hub v E fun old E1 => qm_if (Nat.beq old 0) (qm_ed1 v hub E1 fun old E2 => qm_if (Nat.beq old 1)
        (qm_if (Nat.ble low 9) (qm_if (Nat.ble low v) (qm_p1 hub rays m low E2) (qm_p1 hub rays m v E2)) (qm_p1 hub rays m v E2)) false) false)
      (qm_p1 hub rays m low E) := rfl
end
section
theorem qm_eqn {A B : Prop} {r n : Nat} {x y : Int32} (hx : x = nI r) (hy : y = nI n) (c : Nat.beq r n = true) (a : A) : (x = y → A) ∧ (¬ x = y → B) := br_t (by rw [hx, hy, qm_beq.mp c]) a
theorem qm_wn {r n : Nat} {y : Int32} (c : Nat.beq r n = true) (hn : n < 10) (hy : y = nI n) : qm_wI r = y := by
  rw [qm_beq.mp c, hy]
  exact if_pos hn
theorem qm_w2 {r : Nat} (c : Nat.ble r 9 = false) : qm_wI r = -2 := if_neg (qm_n9 c)
theorem qm_md {v c : Nat} {C : Int32} (hC : C = nI c) (hv : v < 1000) (hc : c < 1000) : (nI v + C) - (nI v + C) / 10 * 10 = nI (Nat.mod (Nat.add v c) 10) := by
  subst hC
  rw [nI_add]
  exact pk_rem (a := v + c) (d := 10) (by omega) (by decide) (by decide)
theorem qm_mod10 (a : Nat) : Nat.mod a 10 < 10 := Nat.mod_lt _ (by decide)
theorem qm_ten : ¬ (10 : Int32) = 0 := by decide
theorem qm_lei {a b : Nat} (ha : a < 1000) (hb : b < 1000) : Nat.ble a b = true ↔ nI a ≤ nI b := by
  rw [nI_leI (by omega) (by omega)]
  exact ⟨qm_le, fun h => Nat.ble_eq_true_of_le h⟩
theorem qm_on : ∀ v, v < 10 → nI (Nat.land (Nat.shiftRight 1023 v) 1) = 1 := by decide +kernel
theorem qm_nz {r : Nat} (c : Nat.ble 1 r = true) (d : Nat.ble r 1023 = true) : ¬ nI r = 0 := nI_ne0 (qm_le c) (by have := qm_le d; omega)
theorem qm_mis {n b z : Nat} (c : Nat.beq (Nat.add b (Nat.mul 2 z)) (Nat.add 9 (Nat.mul 2 n)) = true) : nI b - 2 * nI n = 9 - 2 * nI z := by
  have e : nI (b + 2 * z) = nI (9 + 2 * n) := congrArg nI (qm_beq.mp c)
  rw [← nI_add, ← nI_add, ← pk_mul, ← pk_mul] at e
  have e : nI b + 2 * nI z = 9 + 2 * nI n := e
  grind
theorem qm_mis8 {n b : Nat} (c : Nat.beq b (Nat.add 8 (Nat.mul 2 n)) = true) : nI b - 2 * nI n = 8 := by
  have e : nI b = nI (8 + 2 * n) := congrArg nI (qm_beq.mp c)
  rw [← nI_add, ← pk_mul] at e
  have e : nI b = 8 + 2 * nI n := e
  grind
/-- the law's last loop and its end -/
theorem qm_755 {post : Int32 → St0 → Prop} {mc ms kc ks : Nat} {mk : Int32} {a1 : Nat → Int32} {v E : Nat} {k : Bool} (hv : v < 10) (h1 : qm_rows a1 E) (HP : post 1 ()) (hk : k = true → qm_p3b E v = true) :
    ∀ m i am bA bB ev wt sh a2 a3 a4 a5 a6, i + m = 5 → qm_p3l E k m = true → wL_lawOf_755 post mc ms (nI v) kc ks (m + 1) (nI i) (nI 1023) am bA bB ev wt mk sh a1 a2 a3 a4 a5 a6 := by
  intro m
  induction m with
  | zero =>
    intro i am bA bB ev wt sh a2 a3 a4 a5 a6 hi h
    refine pk_le 5 i (fun _ => ?_) (fun z => absurd z (by omega))
    have h := hk h
    unfold qm_p3b at h
    have h := qm_fo_e h
    refine qm_turn0_ok hv (br_t (qm_on v hv) ?_)
    refine qm_size_ok h1 h (fun r h am bA bB ev wt sh a2 a3 a4 a5 a6 => ?_)
    obtain ⟨c, h⟩ := qm_ck h
    refine qm_eqn rfl rfl c ?_
    refine qm_mem_ok (p := 1) (by decide) (by decide) h1 h (fun r h am bA bB ev wt sh a2 a3 a4 a5 a6 => ?_)
    obtain ⟨c, h⟩ := qm_ck h
    obtain ⟨d, h⟩ := qm_ck h
    refine br_f (qm_nz c d) ⟨qm_ten, ?_⟩
    have h := qm_fo_e h
    refine sb_at (P := wpX_part _ _) (qm_md (c := 1) rfl (by omega) (by omega)) ?_
    refine qm_part_ok (qm_mod10 _) h1 h (fun r h am bA bB ev wt sh a2 a3 a4 a5 a6 => ?_)
    obtain ⟨c, h⟩ := qm_ck h
    refine qm_eqn rfl rfl c ⟨qm_ten, ?_⟩
    have h := qm_fo_e h
    refine sb_at (P := wpX_part _ _) (qm_md (c := 2) rfl (by omega) (by omega)) ?_
    refine qm_part_ok (qm_mod10 _) h1 h (fun r h am bA bB ev wt sh a2 a3 a4 a5 a6 => ?_)
    obtain ⟨c, h⟩ := qm_ck h
    refine qm_eqn rfl rfl c ?_
    refine qm_groups_ok h1 h (fun r c am bA bB ev wt sh a2 a3 a4 a5 a6 => ?_)
    exact qm_eqn rfl rfl c HP
  | succ m ih =>
    intro i am bA bB ev wt sh a2 a3 a4 a5 a6 hi h
    have e : Nat.sub 4 m = i := by
      show 4 - m = i
      omega
    have e2 : (2 : Int32) * nI i = nI (2 * i) := pk_mul 2 i
    have e3 : (2 : Int32) * nI i + 1 = nI (2 * i + 1) := by rw [e2, nI_1]
    rw [qm_p3l_s, e] at h
    have h := qm_fo_e h
    have h := qm_fo_e h
    refine pk_le 5 i (fun z => absurd z (by omega)) (fun _ => ?_)
    refine sb_at (P := wpX_partner _ _) e2 ?_
    refine qm_partner_ok (show 2 * i < 10 by omega) h1 h (fun r h am bA bB ev wt sh a2 a3 a4 a5 a6 => ?_)
    obtain ⟨c, h⟩ := qm_ck h
    refine br_t (qm_wn c (show 2 * i + 1 < 10 by omega) e3) ?_
    refine sb_at (P := wpX_partner _ _) e3 ?_
    refine qm_partner_ok (show 2 * i + 1 < 10 by omega) h1 h (fun r h am bA bB ev wt sh a2 a3 a4 a5 a6 => ?_)
    obtain ⟨c, h⟩ := qm_ck h
    refine br_t (qm_wn c (show 2 * i < 10 by omega) e2) ?_
    exact nm_r (nI_1 i) (ih _ _ _ _ _ _ _ _ _ _ _ _ (by omega) h)
/-- what the last part of the law rests on -/
def qm_T3 : Prop := qm_p3 (fun E => qm_p3l E (qm_alln (qm_p3b E) 10) 5) = true
theorem qm_620 {post : Int32 → St0 → Prop} {mc ms kc ks : Nat} {am bA bB ev wt mk sh : Int32} {a1 a2 a3 a4 a5 a6 : Nat → Int32} {ON E hub one v z : Nat} (T3 : qm_T3) (hh : hub < 10) (ho : one < 10) (hv : v < 10) (h1 : qm_rows a1 E) (HP : post 1 ()) (h : qm_p2b ON E hub one v z = true) :
    wL_lawOf_620 post mc ms (nI hub) (nI one) (nI v) (nI z) kc ks (nI ON) am bA bB ev wt mk sh a1 a2 a3 a4 a5 a6 := by
  unfold qm_p2b at h
  unfold wL_lawOf_620
  refine qm_size_ok h1 h (fun r h am bA bB ev wt sh a2 a3 a4 a5 a6 => ?_)
  obtain ⟨c, h⟩ := qm_ck h
  refine qm_eqn rfl rfl c ?_
  refine qm_missed_ok h1 h (fun n b h am bA bB ev wt sh a2 a3 a4 a5 a6 => ?_)
  obtain ⟨c, h⟩ := qm_ck h
  refine br_t (qm_mis c) ?_
  obtain ⟨c, h⟩ := qm_ck h
  refine qm_turn1_ok hv (qm_eqn rfl rfl c ?_)
  refine qm_ed0_ok hh ho h1 h (fun old E2 b1 g1 h => ?_)
  obtain ⟨c, h⟩ := qm_ck h
  refine qm_eqn rfl rfl c ?_
  refine qm_ed0_ok hh ho g1 h (fun old E3 b2 g2 c => qm_eqn rfl rfl c ?_)
  refine qm_clear_ok (fun b3 h1 => ?_)
  have h := T3
  unfold qm_T3 qm_p3 at h
  refine qm_size_ok h1 h (fun r h am bA bB ev wt sh a2 a3 a4 a5 a6 => ?_)
  obtain ⟨c, h⟩ := qm_ck h
  refine qm_eqn rfl rfl c ?_
  refine qm_groups_ok h1 h (fun r h am bA bB ev wt sh a2 a3 a4 a5 a6 => ?_)
  obtain ⟨c, h⟩ := qm_ck h
  refine qm_eqn rfl rfl c ?_
  refine qm_circle_ok h1 h (fun r E b4 h1 h => ?_)
  obtain ⟨c, h⟩ := qm_ck h
  refine qm_eqn rfl rfl c ?_
  refine qm_circle_ok h1 h (fun r E b4 h1 h => ?_)
  obtain ⟨c, h⟩ := qm_ck h
  refine qm_eqn rfl rfl c ?_
  refine qm_size_ok h1 h (fun r h am bA bB ev wt sh a2 a3 a4 a5 a6 => ?_)
  obtain ⟨c, h⟩ := qm_ck h
  refine qm_eqn rfl rfl c ?_
  refine qm_mem_ok (p := 3) (by decide) (by decide) h1 h (fun r h am bA bB ev wt sh a2 a3 a4 a5 a6 => ?_)
  obtain ⟨c, h⟩ := qm_ck h
  refine qm_eqn rfl rfl c ?_
  refine qm_groups_ok h1 h (fun r h am bA bB ev wt sh a2 a3 a4 a5 a6 => ?_)
  obtain ⟨c, h⟩ := qm_ck h
  refine qm_eqn rfl rfl c ?_
  exact ⟨6, qm_755 hv h1 HP (fun h => qm_alln_e 10 h v hv) 5 0 _ _ _ _ _ _ _ _ _ _ _ rfl h⟩
theorem qm_493 {post : Int32 → St0 → Prop} {mc ms kc ks : Nat} {x2 am bA bB ev wt mk sh : Int32} {a1 a2 a3 a4 a5 a6 : Nat → Int32} {E hub rays one two : Nat} (T3 : qm_T3) (hh : hub < 10) (hr : rays < 10) (ho : one < 10) (ht : two < 10) (h1 : qm_rows a1 E) (HP : post 1 ()) (h : qm_alln (qm_p2 E hub rays one two) 10 = true) :
    wL_lawOf_493 post mc ms x2 (nI hub) (nI rays) (nI one) (nI two) kc ks (nI 1023) am bA bB ev wt mk sh a1 a2 a3 a4 a5 a6 := by
  unfold wL_lawOf_493
  obtain ⟨j, hj, ej⟩ := pk_andE x2 (m := 2147483647) 31 (by decide)
  rw [ej]
  have hv : j % 10 < 10 := Nat.mod_lt _ (by decide)
  refine ⟨qm_ten, nm_r (e' := nI (j % 10)) (pk_rem (a := j) (d := 10) hj (by decide) (by decide)) ?_⟩
  have h := qm_alln_e 10 h (j % 10) hv
  revert hv h
  generalize j % 10 = v
  intro hv h
  unfold qm_p2 at h
  have h := qm_fo_e h
  refine qm_turn0_ok hv (br_t (qm_on v hv) ?_)
  refine qm_part_ok hv h1 h (fun r h am bA bB ev wt sh a2 a3 a4 a5 a6 => ?_)
  obtain ⟨c, h⟩ := qm_ck h
  refine qm_eqn rfl rfl c ?_
  refine qm_partner_ok hv h1 h (fun r h am bA bB ev wt sh a2 a3 a4 a5 a6 => ?_)
  rcases qm_if_e h with ⟨_, h⟩ | ⟨c, h⟩
  · exact absurd h (by decide)
  refine br_t (qm_w2 c) ?_
  refine qm_some_ok hv hh h1 h (fun r h am bA bB ev wt sh a2 a3 a4 a5 a6 => ?_)
  obtain ⟨c, h⟩ := qm_ck h
  refine qm_eqn rfl rfl c ⟨qm_ten, ?_⟩
  have h := qm_fo_e h
  refine sb_at (P := wpX_helps _ _ _) (qm_md (c := 5) rfl (by omega) (by omega)) ?_
  refine qm_helps_ok hv (qm_mod10 _) h1 h (fun r h am bA bB ev wt sh a2 a3 a4 a5 a6 => ?_)
  obtain ⟨c, h⟩ := qm_ck h
  refine qm_eqn rfl rfl c ?_
  unfold qm_zz at h
  have Z1 : qm_p2b (qm_del 1023 (qm_bit v)) E hub one v 1 = true → wL_lawOf_620 post mc ms (nI hub) (nI one) (nI v) 1 kc ks (nI (qm_del 1023 (qm_bit v))) am bA bB ev wt mk sh a1 a2 a3 a4 a5 a6 := fun h => qm_620 (z := 1) T3 hh ho hv h1 HP h
  have Z2 : qm_p2b (qm_del 1023 (qm_bit v)) E hub one v 2 = true → wL_lawOf_620 post mc ms (nI hub) (nI one) (nI v) 2 kc ks (nI (qm_del 1023 (qm_bit v))) am bA bB ev wt mk sh a1 a2 a3 a4 a5 a6 := fun h => qm_620 (z := 2) T3 hh ho hv h1 HP h
  have V : ∀ w, w < 10 → (Nat.beq v w = true ↔ nI v = nI w) := fun w hw => qm_beq.trans (nI_eq (a := v) (b := w) (by omega) (by omega)).symm
  refine qm_br (qm_lei (a := rays) (b := 2) (by omega) (by omega)) h (fun h _ => Z1 h) (fun h _ => ?_)
  refine qm_br (V _ hh) h (fun h _ => Z1 h) (fun h _ => ?_)
  refine qm_br (V _ ho) h (fun h _ => Z1 h) (fun h _ => ?_)
  refine qm_br (V _ ht) h (fun h _ => Z1 h) (fun h _ => ?_)
  refine qm_br (qm_beq.trans (nI_eq (a := rays) (b := 3) (by omega) (by omega)).symm) h (fun h _ => ⟨qm_ten, ?_⟩) (fun h _ => Z2 h)
  refine sb_at (P := fun x => (nI v = x → _) ∧ (¬ nI v = x → _)) (qm_md (c := 3) rfl (by omega) (by omega)) ?_
  exact qm_br (V _ (qm_mod10 _)) h (fun h _ => Z1 h) (fun h _ => Z2 h)
end
section
theorem qm_not0 {r : Nat} (c : Nat.beq r 1 = true) : ¬ nI r = 0 := by
  rw [qm_beq.mp c]
  decide
theorem qm_lti {a b : Nat} (ha : a < 1000) (hb : b < 1000) : Nat.ble a b = true ↔ ¬ nI b < nI a := by
  rw [nI_ltI (by omega) (by omega)]
  exact ⟨fun h z => absurd (qm_le h) (by omega), fun h => Nat.ble_eq_true_of_le (by omega)⟩
theorem qm_vI_le {a b : Nat} (ha : a < 10) (hb : b < 10) : Nat.ble a b = true ↔ qm_vI a ≤ nI b := by
  rw [qm_vI_n ha]
  exact qm_lei (by omega) (by omega)
theorem qm_m0 {post : Int32 → St2 → Prop} {on am bA bB ev wt mk sh : Int32} {a1 a2 a3 a4 a5 a6 : Nat → Int32} (H : post 0 (on, am, bA, bB, ev, wt, mk, sh, a1, a2, a3, a4, a5, a6)) : wpX_members post (on, am, bA, bB, ev, wt, mk, sh, a1, a2, a3, a4, a5, a6) 0 := by
  unfold wpX_members
  exact br_t (by decide) H
theorem qm_m4 {post : Int32 → St2 → Prop} {on am bA bB ev wt mk sh : Int32} {a1 a2 a3 a4 a5 a6 : Nat → Int32} (H : post 0 (on, am, bA, bB, ev, wt, mk, sh, a1, a2, a3, a4, a5, a6)) : wpX_members post (on, am, bA, bB, ev, wt, mk, sh, a1, a2, a3, a4, a5, a6) 4 := by
  unfold wpX_members
  exact br_f (by decide) (br_f (by decide) H)
theorem qm_full {hub : Nat} (hh : hub < 10) : (1023 : Int32) &&& (((1 : Int32) <<< (nI hub &&& 31)) ^^^ (-1)) = nI (qm_del 1023 (qm_bit hub)) := by
  rw [qm_one hub hh]
  exact qm_dl 1023 (qm_bit hub)
/-- three rays: the hub is in the core -/
theorem qm_411a {post : Int32 → St0 → Prop} {mc ms kc ks : Nat} {x2 am bA bB ev wt mk sh : Int32} {a1 a2 a3 a4 a5 a6 : Nat → Int32} {E hub rays one two : Nat} (h3 : rays = 3) (T3 : qm_T3) (hh : hub < 10) (hr : rays < 10) (ho : one < 10) (ht : two < 10) (h1 : qm_rows a1 E) (HP : post 1 ()) (h : qm_p1e E hub rays one two 3 4 6 = true) :
    wpX_part (fun r_1488 u => match u with | (on, am, bA, bB, ev, wt, mk, sh, a1, a2, a3, a4, a5, a6) => ((nI rays = 3 → (wL_lawOf_411 post mc ms x2 (nI hub) (nI rays) (nI one) (nI two) 3 r_1488 kc ks on am bA bB ev wt mk sh a1 a2 a3 a4 a5 a6)) ∧ (¬ nI rays = 3 → (wL_lawOf_411 post mc ms x2 (nI hub) (nI rays) (nI one) (nI two) 2 r_1488 kc ks on am bA bB ev wt mk sh a1 a2 a3 a4 a5 a6)))) (nI 1023, am, bA, bB, ev, wt, mk, sh, a1, a2, a3, a4, a5, a6) (nI hub) := by
  unfold qm_p1e at h
  have e3 : nI rays = 3 := by
    rw [h3]
    rfl
  refine qm_part_ok hh h1 h (fun r h am bA bB ev wt sh a2 a3 a4 a5 a6 => ?_)
  refine br_t e3 ?_
  obtain ⟨c, h⟩ := qm_ck h
  unfold wL_lawOf_411
  refine qm_eqn rfl rfl c ?_
  refine qm_needed_ok h1 h (fun r h am bA bB ev wt sh a2 a3 a4 a5 a6 => ?_)
  refine br_t e3 ?_
  obtain ⟨c, h⟩ := qm_ck h
  unfold wL_lawOf_429
  refine qm_eqn rfl rfl c ?_
  refine qm_groups_ok h1 h (fun r h am bA bB ev wt sh a2 a3 a4 a5 a6 => ?_)
  refine br_t e3 ?_
  obtain ⟨c, h⟩ := qm_ck h
  unfold wL_lawOf_449
  exact qm_eqn rfl rfl c (qm_493 T3 hh hr ho ht h1 HP h)
/-- more rays: it is in the border -/
theorem qm_411b {post : Int32 → St0 → Prop} {mc ms kc ks : Nat} {x2 am bA bB ev wt mk sh : Int32} {a1 a2 a3 a4 a5 a6 : Nat → Int32} {E hub rays one two : Nat} (h3 : ¬ rays = 3) (T3 : qm_T3) (hh : hub < 10) (hr : rays < 10) (ho : one < 10) (ht : two < 10) (h1 : qm_rows a1 E) (HP : post 1 ()) (h : qm_p1e E hub rays one two 2 3 7 = true) :
    wpX_part (fun r_1488 u => match u with | (on, am, bA, bB, ev, wt, mk, sh, a1, a2, a3, a4, a5, a6) => ((nI rays = 3 → (wL_lawOf_411 post mc ms x2 (nI hub) (nI rays) (nI one) (nI two) 3 r_1488 kc ks on am bA bB ev wt mk sh a1 a2 a3 a4 a5 a6)) ∧ (¬ nI rays = 3 → (wL_lawOf_411 post mc ms x2 (nI hub) (nI rays) (nI one) (nI two) 2 r_1488 kc ks on am bA bB ev wt mk sh a1 a2 a3 a4 a5 a6)))) (nI 1023, am, bA, bB, ev, wt, mk, sh, a1, a2, a3, a4, a5, a6) (nI hub) := by
  unfold qm_p1e at h
  have e3 : ¬ nI rays = 3 := fun z => h3 ((nI_eq (a := rays) (b := 3) (by omega) (by omega)).mp z)
  refine qm_part_ok hh h1 h (fun r h am bA bB ev wt sh a2 a3 a4 a5 a6 => ?_)
  refine br_f e3 ?_
  obtain ⟨c, h⟩ := qm_ck h
  unfold wL_lawOf_411
  refine qm_eqn rfl rfl c ?_
  refine qm_needed_ok h1 h (fun r h am bA bB ev wt sh a2 a3 a4 a5 a6 => ?_)
  refine br_f e3 ?_
  obtain ⟨c, h⟩ := qm_ck h
  unfold wL_lawOf_429
  refine qm_eqn rfl rfl c ?_
  refine qm_groups_ok h1 h (fun r h am bA bB ev wt sh a2 a3 a4 a5 a6 => ?_)
  refine br_f e3 ?_
  obtain ⟨c, h⟩ := qm_ck h
  unfold wL_lawOf_449
  exact qm_eqn rfl rfl c (qm_493 T3 hh hr ho ht h1 HP h)
theorem qm_362 {post : Int32 → St0 → Prop} {mc ms kc ks : Nat} {x2 am bA bB ev wt mk sh : Int32} {a1 a2 a3 a4 a5 a6 : Nat → Int32} {E hub rays one two : Nat} {z0 : Int32} {r z : Nat} (hz : z0 = nI z) (c : Nat.beq r z = true) (T3 : qm_T3) (hh : hub < 10) (hr : rays < 10) (ho : one < 10) (ht : two < 10) (h1 : qm_rows a1 E) (HP : post 1 ()) (h : qm_p1d E hub rays one two = true) :
    wL_lawOf_362 post mc ms x2 (nI hub) (nI rays) (nI one) (nI two) z0 (nI r) kc ks (nI 1023) am bA bB ev wt mk sh a1 a2 a3 a4 a5 a6 := by
  unfold wL_lawOf_362
  refine qm_eqn rfl hz c ?_
  unfold qm_p1d at h
  refine qm_br (qm_lei (a := rays) (b := 2) (by omega) (by omega)) h (fun h _ => ?_) (fun h _ => ?_)
  · refine qm_all_ok ho ht (by decide) h1 h (fun r h am bA bB ev wt sh a2 a3 a4 a5 a6 => ?_)
    obtain ⟨c, h⟩ := qm_ck h
    refine qm_eqn rfl rfl c ?_
    refine qm_part_ok hh h1 h (fun r h am bA bB ev wt sh a2 a3 a4 a5 a6 => ?_)
    obtain ⟨c, h⟩ := qm_ck h
    refine qm_eqn rfl rfl c ?_
    refine qm_groups_ok h1 h (fun r h am bA bB ev wt sh a2 a3 a4 a5 a6 => ?_)
    obtain ⟨c, h⟩ := qm_ck h
    refine qm_eqn rfl rfl c ?_
    refine qm_needed_ok h1 h (fun r h am bA bB ev wt sh a2 a3 a4 a5 a6 => ?_)
    obtain ⟨c, h⟩ := qm_ck h
    refine qm_eqn rfl rfl c ?_
    exact qm_493 T3 hh hr ho ht h1 HP h
  · refine qm_all_ok ho ht (by decide) h1 h (fun r h am bA bB ev wt sh a2 a3 a4 a5 a6 => ?_)
    obtain ⟨c, h⟩ := qm_ck h
    refine br_f (qm_not0 c) ?_
    refine qm_part_ok ho h1 h (fun r h am bA bB ev wt sh a2 a3 a4 a5 a6 => ?_)
    obtain ⟨c, h⟩ := qm_ck h
    refine qm_eqn rfl rfl c ?_
    rcases qm_if_e h with ⟨d, h⟩ | ⟨d, h⟩
    · exact qm_411a (qm_beq.mp d) T3 hh hr ho ht h1 HP h
    · refine qm_411b (fun z => ?_) T3 hh hr ho ht h1 HP h
      rw [qm_beq.mpr z] at d
      exact absurd d (by decide)
theorem qm_297 {post : Int32 → St0 → Prop} {mc ms kc ks : Nat} {x2 am bA bB ev wt mk sh : Int32} {a1 a2 a3 a4 a5 a6 : Nat → Int32} {E hub rays one two : Nat} {z0 : Int32} {r z : Nat} (hz : z0 = nI z) (c : Nat.beq r z = true) (T3 : qm_T3) (hh : hub < 10) (hr : rays < 10) (ho : one < 10) (ht : two < 10) (h1 : qm_rows a1 E) (HP : post 1 ()) (h : qm_p1c E hub rays one two = true) :
    wL_lawOf_297 post mc ms x2 (nI hub) (nI rays) (nI one) (nI two) z0 (nI r) kc ks (nI 1023) am bA bB ev wt mk sh a1 a2 a3 a4 a5 a6 := by
  unfold wL_lawOf_297
  refine qm_eqn rfl hz c ?_
  unfold qm_p1c at h
  refine qm_helps_ok hh ho h1 h (fun r h am bA bB ev wt sh a2 a3 a4 a5 a6 => ?_)
  obtain ⟨c, h⟩ := qm_ck h
  refine qm_eqn rfl rfl c ?_
  refine qm_helps_ok ho ho h1 h (fun r h am bA bB ev wt sh a2 a3 a4 a5 a6 => ?_)
  obtain ⟨c, h⟩ := qm_ck h
  refine qm_eqn rfl rfl c ?_
  refine qm_some_ok ho ht h1 h (fun r h am bA bB ev wt sh a2 a3 a4 a5 a6 => ?_)
  obtain ⟨c, h⟩ := qm_ck h
  refine qm_eqn rfl rfl c ?_
  refine qm_ed1_ok ho ht h1 h (fun old E1 b1 h1 h => ?_)
  obtain ⟨c, h⟩ := qm_ck h
  refine qm_eqn rfl rfl c ?_
  refine qm_size_ok h1 h (fun r h am bA bB ev wt sh a2 a3 a4 a5 a6 => ?_)
  refine qm_br (qm_lei (a := rays) (b := 2) (by omega) (by omega)) h (fun h _ => ?_) (fun h _ => ?_)
  · obtain ⟨c, h⟩ := qm_ck h
    exact qm_362 rfl c T3 hh hr ho ht h1 HP h
  · obtain ⟨c, h⟩ := qm_ck h
    exact qm_362 rfl c T3 hh hr ho ht h1 HP h
/-- the law behind its first loop -/
theorem qm_37x {post : Int32 → St0 → Prop} {mc ms kc ks : Nat} {x2 x6 am bA bB ev wt mk sh : Int32} {a1 a2 a3 a4 a5 a6 : Nat → Int32} {E hub rays low n : Nat} (T3 : qm_T3) (hh : hub < 10) (hr : rays < 10) (h1 : qm_rows a1 E) (HP : post 1 ()) (h : qm_p1b E hub rays low = true) :
    wL_lawOf_37 post mc ms x2 (nI hub) (nI rays) kc ks (n + 1) x6 (qm_vI low) (nI 10) (nI 1023) am bA bB ev wt mk sh a1 a2 a3 a4 a5 a6 := by
  unfold qm_p1b at h
  obtain ⟨hl, h⟩ := qm_ck h
  have hl := qm_9 hl
  rw [qm_vI_n hl]
  refine pk_le 10 10 (fun _ => ?_) (fun z => absurd z (by omega))
  refine qm_size_ok h1 h (fun r h am bA bB ev wt sh a2 a3 a4 a5 a6 => ?_)
  obtain ⟨c, h⟩ := qm_ck h
  refine qm_eqn rfl rfl c ?_
  refine qm_missed_ok h1 h (fun n b h am bA bB ev wt sh a2 a3 a4 a5 a6 => ?_)
  obtain ⟨c, h⟩ := qm_ck h
  refine br_t (qm_mis8 c) ?_
  refine qm_mem_ok (p := 2) (by decide) (by decide) h1 h (fun r h am bA bB ev wt sh a2 a3 a4 a5 a6 => ?_)
  obtain ⟨c, h⟩ := qm_ck h
  refine qm_eqn rfl (qm_one hub hh) c ?_
  refine qm_mem_ok (p := 3) (by decide) (by decide) h1 h (fun r h am bA bB ev wt sh a2 a3 a4 a5 a6 => ?_)
  obtain ⟨c, h⟩ := qm_ck h
  refine qm_eqn rfl rfl c ?_
  refine qm_mem_ok (p := 1) (by decide) (by decide) h1 h (fun r h am bA bB ev wt sh a2 a3 a4 a5 a6 => ?_)
  obtain ⟨c, h⟩ := qm_ck h
  refine qm_eqn rfl (qm_full hh) c ?_
  refine qm_groups_ok h1 h (fun r h am bA bB ev wt sh a2 a3 a4 a5 a6 => ?_)
  obtain ⟨c, h⟩ := qm_ck h
  refine qm_eqn rfl rfl c ?_
  refine qm_partner_ok hh h1 h (fun r h am bA bB ev wt sh a2 a3 a4 a5 a6 => ?_)
  obtain ⟨c, h⟩ := qm_ck h
  refine br_t (qm_wn c hl rfl) ?_
  refine qm_partner_ok hl h1 h (fun r h am bA bB ev wt sh a2 a3 a4 a5 a6 => ?_)
  obtain ⟨c, h⟩ := qm_ck h
  refine br_t (qm_wn c hh rfl) ?_
  refine qm_needed_ok h1 h (fun r h am bA bB ev wt sh a2 a3 a4 a5 a6 => ?_)
  obtain ⟨c, h⟩ := qm_ck h
  refine qm_eqn rfl rfl c ?_
  refine qm_m0 (br_t rfl (qm_m4 (br_t rfl ?_)))
  have h := qm_fo_e h
  have h := qm_fo_e h
  have ho := qm_mod10 (Nat.add hub 1)
  have ht := qm_mod10 (Nat.add hub 2)
  refine ⟨qm_ten, nm_r (qm_md (c := 1) rfl (by omega) (by omega)) ⟨qm_ten, nm_r (qm_md (c := 2) rfl (by omega) (by omega)) ?_⟩⟩
  refine qm_some_ok ho hh h1 h (fun r h am bA bB ev wt sh a2 a3 a4 a5 a6 => ?_)
  obtain ⟨c, h⟩ := qm_ck h
  refine br_f (qm_not0 c) ?_
  refine qm_all_ok hh ho (by decide) h1 h (fun r h am bA bB ev wt sh a2 a3 a4 a5 a6 => ?_)
  obtain ⟨c, h⟩ := qm_ck h
  refine qm_eqn rfl rfl c ?_
  refine qm_helps_ok ho ht h1 h (fun r h am bA bB ev wt sh a2 a3 a4 a5 a6 => ?_)
  refine qm_br (qm_lei (a := rays) (b := 2) (by omega) (by omega)) h (fun h _ => ?_) (fun h _ => ?_)
  · obtain ⟨c, h⟩ := qm_ck h
    exact qm_297 rfl c T3 hh hr ho ht h1 HP h
  · obtain ⟨c, h⟩ := qm_ck h
    exact qm_297 rfl c T3 hh hr ho ht h1 HP h
/-- the law's first loop -/
theorem qm_37 {post : Int32 → St0 → Prop} {mc ms kc ks : Nat} {x2 am bA bB ev wt mk sh : Int32} {a2 a3 a4 a5 a6 : Nat → Int32} {hub rays : Nat} (T3 : qm_T3) (hh : hub < 10) (hr : rays < 10) (HP : post 1 ()) :
    ∀ m i low E x6 a1, i + m = 10 → qm_rows a1 E → qm_p1 hub rays m low E = true → wL_lawOf_37 post mc ms x2 (nI hub) (nI rays) kc ks (m + 1) x6 (qm_vI low) (nI i) (nI 1023) am bA bB ev wt mk sh a1 a2 a3 a4 a5 a6 := by
  intro m
  induction m with
  | zero =>
    intro i low E x6 a1 hi h1 h
    have hi : i = 10 := by omega
    rw [hi]
    exact qm_37x T3 hh hr h1 HP h
  | succ m ih =>
    intro i low E x6 a1 hi h1 h
    rw [qm_p1_s, qm_sub9 hi] at h
    have h := qm_fo_e h
    have h := qm_fo_e h
    have hv := qm_mod10 (Nat.add hub i)
    refine pk_le 10 i (fun z => absurd z (by omega)) (fun _ => ⟨qm_ten, nm_r (qm_md (c := i) rfl (by omega) (by omega)) ?_⟩)
    refine qm_brn (qm_lti (by omega) (by omega)) h (fun h _ => ?_) (fun h _ => nm_r (nI_1 i) (ih _ _ _ _ _ (by omega) h1 h))
    refine qm_ed1_ok hh hv h1 h (fun old E1 b1 h1 h => ?_)
    obtain ⟨c, h⟩ := qm_ck h
    refine qm_eqn rfl rfl c ?_
    refine qm_ed1_ok hv hh h1 h (fun old E2 b2 h1 h => ?_)
    obtain ⟨c, h⟩ := qm_ck h
    refine qm_eqn rfl rfl c ?_
    refine fun x6' _ => ?_
    have V : qm_p1 hub rays m (Nat.mod (Nat.add hub i) 10) E2 = true → ∀ x8', x8' = nI i + 1 → wL_lawOf_37 post mc ms x2 (nI hub) (nI rays) kc ks (m + 1) x6' (nI (Nat.mod (Nat.add hub i) 10)) x8' (nI 1023) am bA bB ev wt mk sh b2 a2 a3 a4 a5 a6 := by
      intro h
      rw [← qm_vI_n hv]
      exact nm_r (nI_1 i) (ih _ _ _ _ _ (by omega) h1 h)
    refine qm_brn (qm_vI_lt0 low) h (fun h hl => ?_) (fun h _ => V h)
    exact qm_br (qm_vI_le (qm_9 hl) hv) h (fun h _ => nm_r (nI_1 i) (ih _ _ _ _ _ (by omega) h1 h)) (fun h _ => V h)
/-- what the rest of the law rests on -/
def qm_T1 : Prop := ∀ hub, hub < 10 → ∀ r, r < 8 → qm_p1 hub (Nat.add 2 r) 9 10 0 = true
theorem qm_lawOf {post : Int32 → St0 → Prop} (T1 : qm_T1) (T3 : qm_T3) (HP : post 1 ()) (p0 p1 p2 : Int32) : wpL_lawOf post 52 816 () p0 p1 p2 := by
  unfold wpL_lawOf
  refine ⟨by decide, by decide, 51, 802, by decide, by decide, ?_⟩
  unfold wpX_init
  dsimp only
  refine ⟨by decide, by decide, by decide, by decide, by decide, by decide, by decide, by decide, by decide, by decide, by decide, by decide, ?_⟩
  obtain ⟨i, hi, ei⟩ := pk_andE p0 (m := 2147483647) 31 (by decide)
  obtain ⟨j, hj, ej⟩ := pk_andE p1 (m := 2147483647) 31 (by decide)
  rw [ei, ej]
  have hh : i % 10 < 10 := Nat.mod_lt _ (by decide)
  have hr : j % 8 < 8 := Nat.mod_lt _ (by decide)
  have er : (2 : Int32) + (nI j - nI j / 8 * 8) = nI (2 + j % 8) := by
    have e : nI j - nI j / 8 * 8 = nI (j % 8) := pk_rem (a := j) (d := 8) hj (by decide) (by decide)
    rw [e]
    exact nI_add 2 (j % 8)
  refine ⟨qm_ten, nm_r (e' := nI (i % 10)) (pk_rem (a := i) (d := 10) hi (by decide) (by decide)) ⟨by decide, nm_r er ⟨10, ?_⟩⟩⟩
  exact qm_37 T3 hh (show 2 + j % 8 < 10 by omega) HP 9 1 10 0 0 _ rfl (fun j hj => qm_row0 j hj) (T1 _ hh _ hr)
end
section
/-! the checker's value on every case -/
theorem qm_t3 : qm_T3 := by
  unfold qm_T3
  decide +kernel
theorem qm_v0 : qm_alln (fun r => qm_p1 0 (Nat.add 2 r) 9 10 0) 8 = true := by decide +kernel
theorem qm_v1 : qm_alln (fun r => qm_p1 1 (Nat.add 2 r) 9 10 0) 8 = true := by decide +kernel
theorem qm_v2 : qm_alln (fun r => qm_p1 2 (Nat.add 2 r) 9 10 0) 8 = true := by decide +kernel
theorem qm_v3 : qm_alln (fun r => qm_p1 3 (Nat.add 2 r) 9 10 0) 8 = true := by decide +kernel
theorem qm_v4 : qm_alln (fun r => qm_p1 4 (Nat.add 2 r) 9 10 0) 8 = true := by decide +kernel
theorem qm_v5 : qm_alln (fun r => qm_p1 5 (Nat.add 2 r) 9 10 0) 8 = true := by decide +kernel
theorem qm_v6 : qm_alln (fun r => qm_p1 6 (Nat.add 2 r) 9 10 0) 8 = true := by decide +kernel
theorem qm_v7 : qm_alln (fun r => qm_p1 7 (Nat.add 2 r) 9 10 0) 8 = true := by decide +kernel
theorem qm_v8 : qm_alln (fun r => qm_p1 8 (Nat.add 2 r) 9 10 0) 8 = true := by decide +kernel
theorem qm_v9 : qm_alln (fun r => qm_p1 9 (Nat.add 2 r) 9 10 0) 8 = true := by decide +kernel
end
section
theorem qm_t1 : qm_T1 := by
  intro hub hh r hr
  match hub, hh with
  | 0, _ => exact qm_alln_e 8 qm_v0 r hr
  | 1, _ => exact qm_alln_e 8 qm_v1 r hr
  | 2, _ => exact qm_alln_e 8 qm_v2 r hr
  | 3, _ => exact qm_alln_e 8 qm_v3 r hr
  | 4, _ => exact qm_alln_e 8 qm_v4 r hr
  | 5, _ => exact qm_alln_e 8 qm_v5 r hr
  | 6, _ => exact qm_alln_e 8 qm_v6 r hr
  | 7, _ => exact qm_alln_e 8 qm_v7 r hr
  | 8, _ => exact qm_alln_e 8 qm_v8 r hr
  | 9, _ => exact qm_alln_e 8 qm_v9 r hr
  | n + 10, hh => exact absurd hh (by omega)
theorem qm_cell {post : Int32 → Prop} {L : Nat} {xs : Nat → Int32} (hL : L ≤ 3) (p : Nat) (hp : p < 3) (H : ∀ r, post r) : wpL_cellAt post L xs () (nI p) := by
  unfold wpL_cellAt
  exact pk_le L p (fun _ => H _) (fun z => ⟨pk_in p L z, H _⟩)
theorem i_vc (xs : Nat → Int32) (L : Nat) (hL : L ≤ 3) : wpL_law (fun r => r = 1) L xs := by
  unfold wpL_law
  refine qm_cell hL 0 (by decide) (fun r1 => qm_cell hL 1 (by decide) (fun r2 => qm_cell hL 2 (by decide) (fun r3 => ?_)))
  exact ⟨52, 816, by decide, by decide, qm_lawOf qm_t1 qm_t3 rfl r1 r2 r3⟩
end
