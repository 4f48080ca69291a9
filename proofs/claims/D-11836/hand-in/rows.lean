section
/-! the pure picture -/
def pm_b : Bool → Int32
  | true => 1
  | false => 0
theorem pm_b0 (b : Bool) : pm_b b = 0 ↔ b = false := by cases b <;> decide
theorem pm_bn (b : Bool) : narrow .boolean (.int (pm_b b)) = .int (pm_b b) := by cases b <;> rfl
theorem pm_bv (b : Bool) : vp_nar .boolean (pm_b b) = pm_b b := by cases b <;> rfl
/-- what SINCE holds behind j events -/
def pm_h (T : Nat) (ev : Nat → Nat) : Nat → Bool
  | 0 => false
  | j + 1 => (ev j).testBit T || ((ev j).testBit 0 && pm_h T ev j)
def pm_cnt (h : Nat → Bool) : Nat → Nat
  | 0 => 0
  | j + 1 => pm_cnt h j + (if h (j + 1) = true then 1 else 0)
def pm_str (h : Nat → Bool) : Nat → Nat
  | 0 => 0
  | j + 1 => if h (j + 1) = true then pm_str h j + 1 else 0
def pm_fst (h : Nat → Bool) : Nat → Int32
  | 0 => -1
  | j + 1 => if h (j + 1) = false ∧ pm_fst h j < 0 then nI j else pm_fst h j
def pm_al (T : Nat) (m : Bool) : Nat → Nat
  | 0 => 0
  | i + 1 => pm_al T m i + (if (i.testBit T || (i.testBit 0 && m)) = true then 1 else 0)
theorem pm_cnt_le (h : Nat → Bool) (j : Nat) : pm_cnt h j ≤ j := by
  induction j with
  | zero => exact Nat.le_refl 0
  | succ j ih =>
    unfold pm_cnt
    split <;> omega
theorem pm_al_le (T : Nat) (m : Bool) (j : Nat) : pm_al T m j ≤ j := by
  induction j with
  | zero => exact Nat.le_refl 0
  | succ j ih =>
    unfold pm_al
    split <;> omega
theorem pm_al_t : pm_al 1 true 16 = 12 := by decide +kernel
theorem pm_al_f : pm_al 1 false 16 = 8 := by decide +kernel
theorem pm_str0 (h : Nat → Bool) (j : Nat) (e : j = 0 ∨ h j = false) : pm_str h j = 0 := by
  cases j with
  | zero => rfl
  | succ j =>
    rcases e with e | e
    · omega
    · unfold pm_str
      rw [e]
      rfl
theorem pm_strN (h : Nat → Bool) (j n : Nat) (e : j = 0 ∨ h j = false) (hn : ∀ i, i < n → h (j + i + 1) = true) : pm_str h (j + n) = n := by
  induction n with
  | zero => exact pm_str0 h j e
  | succ n ih =>
    show pm_str h ((j + n) + 1) = n + 1
    unfold pm_str
    rw [hn n (by omega), ih (fun i hi => hn i (by omega))]
    rfl
theorem pm_fst1 (h : Nat → Bool) (j : Nat) (e : ∀ i, i < j → h (i + 1) = true) : pm_fst h j = -1 := by
  induction j with
  | zero => rfl
  | succ j ih =>
    unfold pm_fst
    rw [e j (by omega), ih (fun i hi => e i (by omega))]
    rfl
theorem pm_fstN (h : Nat → Bool) (j n : Nat) (hj : j < 1000) (e : ∀ i, i < j → h (i + 1) = true) (e2 : h (j + 1) = false) : pm_fst h (j + 1 + n) = nI j := by
  induction n with
  | zero =>
    show pm_fst h (j + 1) = nI j
    unfold pm_fst
    rw [e2, pm_fst1 h j e, if_pos ⟨rfl, by decide⟩]
  | succ n ih =>
    show pm_fst h ((j + 1 + n) + 1) = nI j
    unfold pm_fst
    rw [ih, if_neg (fun z => nI_pos (by omega) z.2)]
theorem pm_fst_c (h : Nat → Bool) (j c : Nat) (hj : j < c) (hc : c < 1000) (e : ∀ i, i < j → h (i + 1) = true) (e2 : h (j + 1) = false) : pm_fst h c = nI j := by
  have t := pm_fstN h j (c - (j + 1)) (by omega) e e2
  rw [show j + 1 + (c - (j + 1)) = c by omega] at t
  exact t
/-! small tables -/
theorem pm_bit : ∀ x, x < 16 → ∀ T, T < 4 → (((nI x >>> (nI T &&& 31)) &&& 1) = 0 ↔ x.testBit T = false) := by decide +kernel
theorem pm_i8 : ∀ x, x < 16 → (nI x).toInt8.toInt32 = nI x := by decide +kernel
theorem pm_or : ∀ a, a < 2 → ∀ b, b < 2 → nI a ||| (nI b <<< ((1 : Int32) &&& 31)) = nI (a + 2 * b) := by decide +kernel
theorem pm_t0 : ∀ a, a < 2 → ∀ b, b < 2 → (a + 2 * b).testBit 0 = decide (a = 1) := by decide +kernel
theorem pm_t1 : ∀ a, a < 2 → ∀ b, b < 2 → (a + 2 * b).testBit 1 = decide (b = 1) := by decide +kernel
theorem pm_sh : ∀ j, j < 8 → ((1 : Int64) <<< ((nI j &&& 63).toInt64 &&& 63)).toBitVec = BitVec.twoPow 64 j := by decide +kernel
theorem pm_su : ∀ j, j < 8 → ((nI j &&& 63).toInt64.toUInt64 &&& Int64.toUInt64 63).toNat = j := by decide +kernel
theorem pm_s6 : ∀ j, j < 8 → nI j >>> ((6 : Int32) &&& 31) = 0 := by decide +kernel
/-! the bits of a long -/
def pm_g (x : Int64) (i : Nat) : Bool := x.toBitVec.getLsbD i
theorem pm_set (x : Int64) {m : Int64} {j : Nat} (hj : j < 64) (hm : m.toBitVec = BitVec.twoPow 64 j) (i : Nat) : pm_g (x ||| m) i = (pm_g x i || decide (j = i)) := by
  unfold pm_g
  rw [Int64.toBitVec_or, hm, BitVec.getLsbD_or, BitVec.getLsbD_twoPow]
  simp [hj]
theorem pm_clr (x : Int64) {m : Int64} {j : Nat} (hj : j < 64) (hm : m.toBitVec = BitVec.twoPow 64 j) (i : Nat) (hi : i < 64) : pm_g (x &&& (m ^^^ (-1))) i = (pm_g x i && !decide (j = i)) := by
  have ha : (-1 : Int64).toBitVec = BitVec.allOnes 64 := by decide
  unfold pm_g
  rw [Int64.toBitVec_and, Int64.toBitVec_xor, hm, ha, BitVec.getLsbD_and, BitVec.getLsbD_xor, BitVec.getLsbD_twoPow, BitVec.getLsbD_allOnes]
  simp [hj, hi]
theorem ts_bit {w : Int64} {s : UInt64} {j : Nat} (hj : j < 64) (hs : s.toNat = j) : ((w.toUInt64 >>> s).toInt64 &&& 1) = 0 ↔ w.toBitVec.getLsbD j = false := by
  have e : (w.toUInt64 >>> s).toInt64.toBitVec = w.toBitVec >>> j := by
    apply BitVec.eq_of_toNat_eq
    show (w.toUInt64 >>> s).toNat = _
    rw [UInt64.toNat_shiftRight, hs, Nat.mod_eq_of_lt hj, BitVec.toNat_ushiftRight]
    rfl
  rw [← Int64.toBitVec_inj, Int64.toBitVec_and, e]
  show w.toBitVec >>> j &&& 1#64 = 0#64 ↔ _
  constructor
  · intro h
    have t := congrArg (fun x => x.getLsbD 0) h
    simpa using t
  · intro h
    apply BitVec.eq_of_getLsbD_eq
    intro i hi
    cases i with
    | zero => simp [h]
    | succ i => simp
/-- the judged part of a state: the memory of SINCE, and a bit for each event -/
def pm_I (T : Nat) (ev : Nat → Nat) (j : Nat) (a6 : Nat → Int64) (a9 : Nat → Int32) : Prop := a9 0 = pm_b (pm_h T ev j) ∧ ∀ k, k < j → pm_g (a6 0) k = pm_h T ev (k + 1)
/-- the formula and the events -/
def pm_F (T : Nat) (ev : Nat → Nat) (c : Nat) (a1 a5 : Nat → Int32) : Prop := T < 4 ∧ c ≤ 8 ∧ a1 0 = 10 ∧ a1 1 = 0 ∧ a1 2 = nI T ∧ (∀ k, k < c → a5 k = nI (ev k)) ∧ ∀ k, ev k < 16
/-- post, at every state that a query may leave -/
def pm_Q (T : Nat) (ev : Nat → Nat) (c : Nat) (w : Int32) (a1 a5 : Nat → Int32) (post : St2 → Prop) : Prop :=
  ∀ (oc : Int32) (a2 a3 a4 : Nat → Int32) (a6 : Nat → Int64) (a7 a8 a9 a10 a11 a12 a13 : Nat → Int32), a2 0 = 2 → pm_I T ev c a6 a9 → post (w, 3, oc, nI c, nI c, a1, a2, a3, a4, a5, a6, a7, a8, a9, a10, a11, a12, a13)
theorem pm_u0 {f : Nat → Int32} {k : Nat} {x y : Int32} (hk : k = 0) (hx : x = y) : upd f k x 0 = y := by
  subst hk hx
  exact pk_us
theorem pm_uk {f : Nat → Int32} {k j : Nat} {x y : Int32} (hk : k = j) (hx : x = y) : upd f k x j = y := by
  subst hk hx
  exact pk_us
theorem pm_un {f : Nat → Int32} {k j : Nat} {x y : Int32} (hk : j ≠ k) (hx : f j = y) : upd f k x j = y := by
  subst hx
  exact pk_un hk
end
section
section
variable {w sz oc ct jd : Int32} {a1 a2 a3 a4 a5 : Nat → Int32} {a6 : Nat → Int64} {a7 a8 a9 a10 a11 a12 a13 : Nat → Int32}
/-! complete, feed, undo, back, event -/
theorem pm_w10 {post : Int32 → Prop} {p : Int32} (hp : p = 10) (h : post 2) : wpX_wants post () p := by
  subst hp
  exact br_f (by decide) (br_f (by decide) (br_t rfl h))
theorem pm_w0 {post : Int32 → Prop} {p : Int32} {T : Nat} (hT : T < 4) (hp : p = nI T) (h : post 0) : wpX_wants post () p := by
  subst hp
  exact pk_eq T 5 (fun z => absurd z (by omega)) (fun _ => pk_eq T 6 (fun z => absurd z (by omega)) (fun _ => pk_eq T 10 (fun z => absurd z (by omega)) (fun _ => pk_le 4 T (fun z => absurd z (by omega)) (fun _ => h))))
theorem pm_e1 {x : Int32} (h : x = 0) : (1 : Int32) = x + 1 := by subst h; decide
theorem pm_e2 {x : Int32} (h : x = 0) : ¬ (2 : Int32) = x + 1 := by subst h; decide
theorem pm_e3 {x : Int32} (h : x = 2) : (x - 1).toInt8.toInt32 = 1 := by subst h; decide
theorem pm_e4 {x : Int32} (h : x = 1) : (x - 1).toInt8.toInt32 = 0 := by subst h; decide
theorem pm_n1 {x : Int32} (h : x = 1) : ¬ x = 0 := by subst h; decide
theorem pm_i0 {post : Int32 → St2 → Prop} {n : Nat} (hs : ¬ sz ≤ 0) (h0 : a1 0 = 10) (H : ∀ a3 a4 : Nat → Int32, a3 0 = 0 → a4 0 = 2 → wX_complete_7 post n 1 w sz 1 ct jd a1 a2 a3 a4 a5 a6 a7 a8 a9 a10 a11 a12 a13) : wX_complete_7 post (n + 1) 0 w sz 0 ct jd a1 a2 a3 a4 a5 a6 a7 a8 a9 a10 a11 a12 a13 :=
  br_f hs (br_t (by decide) (And.intro (pk_in 0 14 (by omega)) (pm_w10 h0 (br_f (by decide) (And.intro (pk_in 0 16 (by omega)) (nm_e (And.intro (pk_in 0 16 (by omega)) (nm_e (nm_r (e' := 1) (by decide) (nm_r (e' := 1) (by decide) (H _ _ (pm_u0 (by decide) (by decide)) (pm_u0 (by decide) (by decide)))))))))))))
theorem pm_i1 {post : Int32 → St2 → Prop} {n : Nat} (hs : ¬ sz ≤ 1) (h1 : a1 1 = 0) (h3 : a3 0 = 0) (h4 : a4 0 = 2) (H : ∀ a4 : Nat → Int32, a4 0 = 1 → wX_complete_7 post n 2 w sz 1 ct jd a1 a2 a3 a4 a5 a6 a7 a8 a9 a10 a11 a12 a13) : wX_complete_7 post (n + 1) 1 w sz 1 ct jd a1 a2 a3 a4 a5 a6 a7 a8 a9 a10 a11 a12 a13 :=
  br_f hs (br_f (by decide) (nm_r (e' := 0) (by decide) (And.intro (pk_in 0 16 (by omega)) (br_t (pm_e1 h3) (And.intro (pk_in 0 16 (by omega)) (And.intro (pk_in 0 16 (by omega)) (nm_e (And.intro (pk_in 0 16 (by omega)) (br_f (pm_n1 (Eq.trans pk_us (pm_e3 h4)))
    (And.intro (pk_in 1 14 (by omega)) (pm_w0 (T := 0) (by omega) h1 (br_t (by decide) (nm_r (e' := 2) (by decide) (H _ (pm_u0 (by decide) (pm_e3 h4))))))))))))))))
theorem pm_i2 {post : Int32 → St2 → Prop} {n T : Nat} (hs : ¬ sz ≤ 2) (hT : T < 4) (h2 : a1 2 = nI T) (h3 : a3 0 = 0) (h4 : a4 0 = 1) (H : ∀ a2 a4 : Nat → Int32, a2 0 = 2 → wX_complete_7 post n 3 w sz 0 ct jd a1 a2 a3 a4 a5 a6 a7 a8 a9 a10 a11 a12 a13) : wX_complete_7 post (n + 1) 2 w sz 1 ct jd a1 a2 a3 a4 a5 a6 a7 a8 a9 a10 a11 a12 a13 :=
  br_f hs (br_f (by decide) (nm_r (e' := 0) (by decide) (And.intro (pk_in 0 16 (by omega)) (br_f (pm_e2 h3) (And.intro (pk_in 0 16 (by omega)) (And.intro (pk_in 0 14 (by omega) h3) (nm_e
    (And.intro (pk_in 0 16 (by omega)) (And.intro (pk_in 0 16 (by omega)) (nm_e (And.intro (pk_in 0 16 (by omega)) (br_t (Eq.trans pk_us (pm_e4 h4)) (nm_r (e' := 0) (by decide)
      (And.intro (pk_in 2 14 (by omega)) (pm_w0 hT h2 (br_t (by decide) (nm_r (e' := 3) (by decide) (H _ _ (pm_u0 (pk_cl 0 h3) (by decide))))))))))))))))))))
theorem pm_c3 {post : Int32 → St2 → Prop} {T : Nat} (hT : T < 4) (h0 : a1 0 = 10) (h1 : a1 1 = 0) (h2 : a1 2 = nI T) (H : ∀ a2 a3 a4 : Nat → Int32, a2 0 = 2 → post 1 (w, 3, 0, ct, jd, a1, a2, a3, a4, a5, a6, a7, a8, a9, a10, a11, a12, a13)) : wpX_complete post (w, 3, oc, ct, jd, a1, a2, a3, a4, a5, a6, a7, a8, a9, a10, a11, a12, a13) :=
  Exists.intro 4 (pm_i0 (by decide) h0 (fun a3 _ h3 h4 => pm_i1 (by decide) h1 h3 h4 (fun _ h4 => pm_i2 (by decide) hT h2 h3 h4 (fun a2 a4 h2' => br_t (by decide) (br_f (by decide) (br_t rfl (H a2 a3 a4 h2')))))))
theorem pm_c0 {post : Int32 → St2 → Prop} (H : ∀ (oc : Int32) (a3 a4 : Nat → Int32), post 0 (w, 0, oc, ct, jd, a1, a2, a3, a4, a5, a6, a7, a8, a9, a10, a11, a12, a13)) : wpX_complete post (w, 0, oc, ct, jd, a1, a2, a3, a4, a5, a6, a7, a8, a9, a10, a11, a12, a13) :=
  Exists.intro 1 (br_t (by decide) (br_t (by decide) (H 0 a3 a4)))
theorem pm_c1 {post : Int32 → St2 → Prop} (h0 : a1 0 = 10) (H : ∀ (oc : Int32) (a3 a4 : Nat → Int32), post 0 (w, 1, oc, ct, jd, a1, a2, a3, a4, a5, a6, a7, a8, a9, a10, a11, a12, a13)) : wpX_complete post (w, 1, oc, ct, jd, a1, a2, a3, a4, a5, a6, a7, a8, a9, a10, a11, a12, a13) :=
  Exists.intro 2 (pm_i0 (by decide) h0 (fun a3 a4 _ _ => br_t (by decide) (br_f (by decide) (br_f (by decide) (H 1 a3 a4)))))
theorem pm_c2 {post : Int32 → St2 → Prop} (h0 : a1 0 = 10) (h1 : a1 1 = 0) (H : ∀ (oc : Int32) (a3 a4 : Nat → Int32), post 0 (w, 2, oc, ct, jd, a1, a2, a3, a4, a5, a6, a7, a8, a9, a10, a11, a12, a13)) : wpX_complete post (w, 2, oc, ct, jd, a1, a2, a3, a4, a5, a6, a7, a8, a9, a10, a11, a12, a13) :=
  Exists.intro 3 (pm_i0 (by decide) h0 (fun a3 _ h3 h4 => pm_i1 (by decide) h1 h3 h4 (fun a4 _ => br_t (by decide) (br_f (by decide) (br_f (by decide) (H 1 a3 a4))))))
theorem pm_cinc {post : Int32 → St2 → Prop} {s : Nat} (hs : s < 3) (h0 : 0 < s → a1 0 = 10) (h1 : 1 < s → a1 1 = 0) (H : ∀ (oc : Int32) (a3 a4 : Nat → Int32), post 0 (w, nI s, oc, ct, jd, a1, a2, a3, a4, a5, a6, a7, a8, a9, a10, a11, a12, a13)) : wpX_complete post (w, nI s, oc, ct, jd, a1, a2, a3, a4, a5, a6, a7, a8, a9, a10, a11, a12, a13) := by
  have e : s = 0 ∨ s = 1 ∨ s = 2 := by omega
  rcases e with e | e | e
  · subst e
    exact pm_c0 H
  · subst e
    exact pm_c1 (h0 (by omega)) H
  · subst e
    exact pm_c2 (h0 (by omega)) (h1 (by omega)) H
theorem pm_feed {post : Int32 → St2 → Prop} {s x : Nat} (hs : s < 3) (hx : x ≤ 12) (h0 : 0 < s → a1 0 = 10) (h1 : 1 < s → a1 1 = 0) (H : ∀ (oc : Int32) (a3 a4 : Nat → Int32), post (nI (s + 1)) (w, nI (s + 1), oc, ct, 0, upd a1 s (nI x), a2, a3, a4, a5, a6, a7, a8, a9, a10, a11, a12, a13)) : wpX_feed post (w, nI s, oc, ct, jd, a1, a2, a3, a4, a5, a6, a7, a8, a9, a10, a11, a12, a13) (nI x) :=
  br_f (nI_pos (by omega)) (pk_lt 12 x (fun z => absurd z (by omega)) (fun _ => pk_le 14 s (fun z => absurd z (by omega)) (fun _ => pm_cinc hs h0 h1 (fun oc a3 a4 => br_t rfl (And.intro (pk_in s 14 (by omega)) (nm_r (e' := upd a1 s (nI x)) (by rw [nI_clamp (by omega), pm_i8 x (by omega)]) (nm_r (nI_1 s) (H oc a3 a4))))))))
theorem pm_feed3 {post : Int32 → St2 → Prop} {T x : Nat} (hx : x ≤ 12) (hT : T < 4) (h0 : a1 0 = 10) (h1 : a1 1 = 0) (h2 : a1 2 = nI T) (H : ∀ a2 a3 a4 : Nat → Int32, a2 0 = 2 → post (-1) (w, 3, 0, ct, jd, a1, a2, a3, a4, a5, a6, a7, a8, a9, a10, a11, a12, a13)) : wpX_feed post (w, 3, oc, ct, jd, a1, a2, a3, a4, a5, a6, a7, a8, a9, a10, a11, a12, a13) (nI x) :=
  br_f (nI_pos (by omega)) (pk_lt 12 x (fun z => absurd z (by omega)) (fun _ => br_f (by decide) (pm_c3 hT h0 h1 h2 (fun a2 a3 a4 h => br_f (by decide) (H a2 a3 a4 h)))))
theorem pm_undo {post : Int32 → St2 → Prop} (H : post 7 (w, sz, oc, 7, 0, a1, a2, a3, a4, a5, a6, a7, a8, a9, a10, a11, a12, a13)) : wpX_undo post (w, sz, oc, 8, 8, a1, a2, a3, a4, a5, a6, a7, a8, a9, a10, a11, a12, a13) :=
  br_f (by decide) (nm_r (e' := 7) (by decide) (br_f (by decide) H))
theorem pm_back {post : Int32 → St2 → Prop} {T : Nat} (h2 : a1 2 = nI T) (H : post (nI T) (w, 2, oc, ct, 0, a1, a2, a3, a4, a5, a6, a7, a8, a9, a10, a11, a12, a13)) : wpX_back post (w, 3, oc, ct, jd, a1, a2, a3, a4, a5, a6, a7, a8, a9, a10, a11, a12, a13) := by
  refine br_f (by decide) (nm_r (e' := 2) (by decide) (And.intro (pk_in 2 14 (by omega)) ?_))
  have e : a1 (2 : Int32).toNatClampNeg = nI T := h2
  rw [e]
  exact H
theorem pm_event {post : Int32 → St2 → Prop} {x c : Nat} {p0 : Int32} (hp : p0 = nI x) (hx : x < 16) (hc : c < 200) (H : post (nI c) (w, sz, oc, nI (c + 1), jd, a1, a2, a3, a4, upd a5 c (nI x), a6, a7, a8, a9, a10, a11, a12, a13)) : wpX_event post (w, sz, oc, nI c, jd, a1, a2, a3, a4, a5, a6, a7, a8, a9, a10, a11, a12, a13) p0 := by
  subst hp
  refine br_f (nI_pos (by omega)) (pk_le x 15 (fun _ => ?_) (fun z => absurd z (by omega)))
  refine pk_lt c 200 (fun _ => And.intro (pk_in c 200 hc) (nm_r (e' := upd a5 c (nI x)) (by rw [nI_clamp (by omega), pm_i8 x (by omega)]) (nm_r (nI_1 c) ?_))) (fun z => absurd z (by omega))
  rw [nI_pred]
  exact H
end
end
section
section
variable {w sz oc ct jd : Int32} {a1 a2 a3 a4 a5 : Nat → Int32} {a6 : Nat → Int64} {a7 a8 a9 a10 a11 a12 a13 : Nat → Int32}
/-! step: the leaves, SINCE, the two loops -/
theorem pm_leaf {post : Int32 → St2 → Prop} {k T x : Nat} {p2 : Int32} (hk : k < 14) (hT : T < 4) (hx : x < 16) (ha : a1 k = nI T) (H : post (pm_b (x.testBit T)) (w, sz, oc, ct, jd, a1, a2, a3, a4, a5, a6, a7, a8, a9, a10, a11, a12, a13)) : wpX_partAt post (w, sz, oc, ct, jd, a1, a2, a3, a4, a5, a6, a7, a8, a9, a10, a11, a12, a13) (nI k) (nI x) p2 := by
  have e := pm_bit x hx T hT
  refine And.intro (pk_in k 14 hk) (nm_r (e' := nI T) (by rw [nI_clamp (by omega)]; exact ha) (pk_le 4 T (fun z => absurd z (by omega)) (fun _ => ?_)))
  cases hb : x.testBit T with
  | true =>
    rw [hb] at H e
    exact br_f (fun z => absurd (e.mp z) (by decide)) H
  | false =>
    rw [hb] at H e
    exact br_t (e.mpr rfl) H
theorem pm_r172 {post : Int32 → St2 → Prop} (H : ∀ a9 : Nat → Int32, a9 0 = 1 → post 1 (w, sz, oc, ct, jd, a1, a2, a3, a4, a5, a6, a7, a8, a9, a10, a11, a12, a13)) : wX_remembering_172 post 0 0 w sz oc ct jd a1 a2 a3 a4 a5 a6 a7 a8 a9 a10 a11 a12 a13 := by
  refine And.intro (pk_in 0 14 (by omega)) (nm_e (And.intro (pk_in 0 14 (by omega)) (And.intro ?_ ?_)))
  · rw [pk_us]
    rfl
  · rw [pk_us]
    exact H _ (pm_u0 (by decide) rfl)
theorem pm_r0 {post : Int32 → St2 → Prop} (H : ∀ a9 : Nat → Int32, a9 0 = 0 → post 0 (w, sz, oc, ct, jd, a1, a2, a3, a4, a5, a6, a7, a8, a9, a10, a11, a12, a13)) : vp_in 0 14 ∧ ∀ a : Nat → Int32, a = upd a9 (0 : Int32).toNatClampNeg 0 → (vp_in 0 14 ∧ (narrow .boolean (.int (a (0 : Int32).toNatClampNeg)) = .int (a (0 : Int32).toNatClampNeg) ∧ post (a (0 : Int32).toNatClampNeg) (w, sz, oc, ct, jd, a1, a2, a3, a4, a5, a6, a7, a8, a, a10, a11, a12, a13))) := by
  refine And.intro (pk_in 0 14 (by omega)) (nm_e (And.intro (pk_in 0 14 (by omega)) (And.intro ?_ ?_)))
  · rw [pk_us]
    rfl
  · rw [pk_us]
    exact H _ (pm_u0 (by decide) rfl)
theorem pm_bt {x : Int32} (h : x = pm_b true) : ¬ x = 0 := by subst h; decide
theorem pm_since {post : Int32 → St2 → Prop} {f s m : Bool} {p2 : Int32} (h0 : a1 0 = 10) (h2 : a2 0 = 2) (hs : a7 2 = pm_b s) (hm : a9 0 = pm_b m) (H : ∀ a9 : Nat → Int32, a9 0 = pm_b (s || (f && m)) → post (pm_b (s || (f && m))) (w, sz, oc, ct, jd, a1, a2, a3, a4, a5, a6, a7, a8, a9, a10, a11, a12, a13)) : wpX_remembering post (w, sz, oc, ct, jd, a1, a2, a3, a4, a5, a6, a7, a8, a9, a10, a11, a12, a13) 0 (pm_b f) p2 := by
  refine And.intro (pk_in 0 14 (by omega)) (nm_r (e' := 10) h0 (br_f (by decide) (br_f (by decide) (br_f (by decide) (br_f (by decide) (And.intro (pk_in 0 14 (by omega)) (And.intro (pk_in 2 14 (by omega) h2) ?_)))))))
  have e2 : a2 (0 : Int32).toNatClampNeg = 2 := h2
  rw [e2]
  cases s with
  | true => exact br_f (pm_bt hs) (pm_r172 H)
  | false =>
    refine br_t hs ?_
    cases f with
    | false => exact br_t rfl (pm_r0 H)
    | true =>
      refine br_f (by decide) (And.intro (pk_in 0 14 (by omega)) ?_)
      cases m with
      | true => exact br_f (pm_bt hm) (pm_r172 H)
      | false => exact br_t hm (pm_r0 H)
theorem pm_root {post : Int32 → St2 → Prop} {f s m : Bool} {p1 p2 : Int32} (h0 : a1 0 = 10) (h2 : a2 0 = 2) (hf : a7 1 = pm_b f) (hs : a7 2 = pm_b s) (hm : a9 0 = pm_b m) (H : ∀ a9 : Nat → Int32, a9 0 = pm_b (s || (f && m)) → post (pm_b (s || (f && m))) (w, sz, oc, ct, jd, a1, a2, a3, a4, a5, a6, a7, a8, a9, a10, a11, a12, a13)) : wpX_partAt post (w, sz, oc, ct, jd, a1, a2, a3, a4, a5, a6, a7, a8, a9, a10, a11, a12, a13) 0 p1 p2 :=
  And.intro (pk_in 0 14 (by omega)) (nm_r (e' := 10) h0 (br_t (by decide) (And.intro (pk_in 1 14 (by omega)) (nm_r (e' := pm_b f) hf (br_f (by decide) (br_t (by decide) (pm_since h0 h2 hs hm (fun a9 h9 => And.intro (pm_bn _) (H a9 h9)))))))))
theorem pm_uv (f : Nat → Int32) (b : Bool) : upd f (0 : Int32).toNatClampNeg (vp_nar .boolean (pm_b b)) 0 = pm_b b := pm_u0 (by decide) (pm_bv b)
theorem pm_s35 {post : Int32 → St2 → Prop} {T x : Nat} {m : Bool} {p2 : Int32} (hT : T < 4) (hx : x < 16) (h0 : a1 0 = 10) (h1 : a1 1 = 0) (h2 : a1 2 = nI T) (hs : a2 0 = 2) (hm : a9 0 = pm_b m) (H : ∀ a7 a9 : Nat → Int32, a9 0 = pm_b (x.testBit T || (x.testBit 0 && m)) → post (pm_b (x.testBit T || (x.testBit 0 && m))) (w, sz, oc, ct, jd, a1, a2, a3, a4, a5, a6, a7, a8, a9, a10, a11, a12, a13)) : wX_step_35 post (nI x) p2 4 2 w sz oc ct jd a1 a2 a3 a4 a5 a6 a7 a8 a9 a10 a11 a12 a13 := by
  refine br_f (by decide) (pm_leaf (k := 2) (by omega) hT hx h2 (And.intro (pk_in 2 14 (by omega)) (nm_e (nm_r (e' := 1) (by decide) ?_))))
  refine br_f (by decide) (pm_leaf (k := 1) (T := 0) (by omega) (by omega) hx h1 (And.intro (pk_in 1 14 (by omega)) (nm_e (nm_r (e' := 0) (by decide) ?_))))
  refine br_f (by decide) (pm_root (f := x.testBit 0) (s := x.testBit T) (m := m) h0 hs (pm_uk (by decide) (pm_bv _)) (pm_un (by decide) (pm_uk (by decide) (pm_bv _))) hm (fun a9 h9 => And.intro (pk_in 0 14 (by omega)) (nm_e (nm_r (e' := -1) (by decide) (br_t (by decide) (And.intro ?_ ?_))))))
  · rw [pm_uv]
    exact pm_bn _
  · rw [pm_uv]
    exact H _ a9 h9
theorem pm_step {post : Int32 → St2 → Prop} {T x : Nat} {m : Bool} {p1 p2 : Int32} (hp : p1 = nI x) (hT : T < 4) (hx : x < 16) (h0 : a1 0 = 10) (h1 : a1 1 = 0) (h2 : a1 2 = nI T) (hs : a2 0 = 2) (hm : a9 0 = pm_b m) (H : ∀ a7 a8 a9 : Nat → Int32, a9 0 = pm_b (x.testBit T || (x.testBit 0 && m)) → post (pm_b (x.testBit T || (x.testBit 0 && m))) (w, 3, oc, ct, jd, a1, a2, a3, a4, a5, a6, a7, a8, a9, a10, a11, a12, a13)) : wpX_step post (w, 3, oc, ct, jd, a1, a2, a3, a4, a5, a6, a7, a8, a9, a10, a11, a12, a13) p1 p2 := by
  subst hp
  exact loop_0 (fun n i s => wX_step_2 post (nI x) p2 w 3 oc ct jd n (nI i) a1 a2 a3 a4 a5 a6 a7 s a9 a10 a11 a12 a13) (fun _ _ => True) 3 a8 trivial
    (fun n s _ => pk_le 3 3 (fun _ => nm_r (e' := 2) (by decide) (Exists.intro 4 (pm_s35 hT hx h0 h1 h2 hs hm (fun a7 a9 h9 => H a7 s a9 h9)))) (fun z => absurd z (by omega)))
    (fun n i s hi _ hw => pk_le 3 i (fun z => absurd z (by omega)) (fun _ => And.intro (pk_in i 14 (by omega)) (And.intro (pk_in i 14 (by omega)) (nm_e (nm_r (nI_1 i) (hw _ trivial))))))
end
end
section
section
variable {w sz oc ct jd : Int32} {a1 a2 a3 a4 a5 : Nat → Int32} {a6 : Nat → Int64} {a7 a8 a9 a10 a11 a12 a13 : Nat → Int32}
/-! begin, judge, wasTrue -/
theorem pm_begin {post : St2 → Prop} (h0 : a1 0 = 10) (H : ∀ a7 a9 a10 : Nat → Int32, a9 0 = 0 → post (w, sz, oc, ct, jd, a1, a2, a3, a4, a5, a6, a7, a8, a9, a10, a11, a12, a13)) : wpX_begin post (w, sz, oc, ct, jd, a1, a2, a3, a4, a5, a6, a7, a8, a9, a10, a11, a12, a13) := by
  refine loop_0 (fun n i s => wX_begin_2 post w sz oc ct jd n (nI i) a1 a2 a3 a4 a5 a6 s.1 a8 s.2.1 s.2.2 a11 a12 a13) (fun i s => 0 < i → s.2.1 0 = 0) 14 (a7, a9, a10) (fun z => absurd z (by omega))
    (fun n s h => pk_le 14 14 (fun _ => H _ _ _ (h (by omega))) (fun z => absurd z (by omega)))
    (fun n i s hi h hw => pk_le 14 i (fun z => absurd z (by omega)) (fun _ => And.intro (pk_in i 14 hi) (nm_e (And.intro (pk_in i 14 hi) (br_c
      (fun z => And.intro (pk_in i 14 hi) (nm_e (And.intro (pk_in i 14 hi) (nm_e (nm_r (nI_1 i) (hw (_, _, _) (fun _ => ?_)))))))
      (fun z => And.intro (pk_in i 14 hi) (nm_e (And.intro (pk_in i 14 hi) (nm_e (nm_r (nI_1 i) (hw (_, _, _) (fun _ => ?_))))))))))))
  · rw [nI_clamp (by omega)] at z
    refine pm_un (fun e => ?_) (h ?_)
    · rw [nI_clamp (by omega)] at e
      rw [← e, h0] at z
      exact absurd z (by decide)
    · rcases Nat.eq_zero_or_pos i with e | e
      · rw [e, h0] at z
        exact absurd z (by decide)
      · exact e
  · rcases Nat.eq_zero_or_pos i with e | e
    · exact pm_u0 (by rw [nI_clamp (by omega)]; exact e) rfl
    · exact pm_un (by rw [nI_clamp (by omega)]; omega) (h e)
theorem pm_jset {T : Nat} {ev : Nat → Nat} {i : Nat} {a6 : Nat → Int64} {z : Int64} (hi : i < 8) (h : ∀ k, k < i → pm_g (a6 0) k = pm_h T ev (k + 1)) (hz : ∀ k, k < 8 → pm_g z k = if i = k then pm_h T ev (i + 1) else pm_g (a6 0) k) : ∀ k, k < i + 1 → pm_g (vp_updL a6 (0 : Int32).toNatClampNeg z 0) k = pm_h T ev (k + 1) := by
  intro k hk
  have e : vp_updL a6 (0 : Int32).toNatClampNeg z 0 = z := pk_uLs
  rw [e, hz k (by omega)]
  by_cases q : i = k
  · rw [if_pos q, q]
  · rw [if_neg q]
    exact h k (by omega)
theorem pm_jl {post : Int32 → St2 → Prop} {T c i : Nat} {ev : Nat → Nat} (hF : pm_F T ev c a1 a5) (hs : a2 0 = 2) (hi : i ≤ c) (hI : pm_I T ev i a6 a9)
    (H : ∀ (a6 : Nat → Int64) (a7 a8 a9 : Nat → Int32), pm_I T ev c a6 a9 → post 1 (w, 3, oc, nI c, nI c, a1, a2, a3, a4, a5, a6, a7, a8, a9, a10, a11, a12, a13)) : ∃ n, wX_judge_20 post n w 3 oc (nI c) (nI i) a1 a2 a3 a4 a5 a6 a7 a8 a9 a10 a11 a12 a13 := by
  obtain ⟨hT, hc, h0, h1, h2, h5, hev⟩ := hF
  refine pk_loop (fun n i s => wX_judge_20 post n w 3 oc (nI c) (nI i) a1 a2 a3 a4 a5 s.1 s.2.1 s.2.2.1 s.2.2.2 a10 a11 a12 a13) (fun i s => pm_I T ev i s.1 s.2.2.2) c i (a6, a7, a8, a9) hi hI
    (fun n s h => pk_le c c (fun _ => H _ _ _ _ h) (fun z => absurd z (by omega)))
    (fun n i s hi h hw => pk_le c i (fun z => absurd z (by omega)) (fun _ => And.intro (pk_in i 200 (by omega)) (pm_step (x := ev i) (by rw [nI_clamp (by omega)]; exact h5 i hi) hT (hev i) h0 h1 h2 hs h.1 (fun a7 a8 a9 h9 => nm_e (nm_r (pm_s6 i (by omega)) ?_)))))
  have h9' : a9 0 = pm_b (pm_h T ev (i + 1)) := h9
  have hm := pm_sh i (by omega)
  cases hb : pm_h T ev (i + 1) with
  | false =>
    have hb' : ((ev i).testBit T || ((ev i).testBit 0 && pm_h T ev i)) = false := hb
    have F := hw (vp_updL s.1 (0 : Int32).toNatClampNeg (s.1 0 &&& (((1 : Int64) <<< ((nI i &&& 63).toInt64 &&& 63)) ^^^ (-1))), a7, a8, a9) ⟨h9', pm_jset (z := s.1 0 &&& (((1 : Int64) <<< ((nI i &&& 63).toInt64 &&& 63)) ^^^ (-1))) (by omega) h.2 (fun k hk => by
      rw [pm_clr _ (by omega) hm k (by omega), hb]
      by_cases q : i = k
      · rw [if_pos q]
        simp [q]
      · rw [if_neg q]
        simp [q])⟩
    exact br_t (by rw [hb']; rfl) (And.intro (pk_in 0 4 (by omega)) (And.intro (pk_in 0 4 (by omega)) (nm_e (nm_r (nI_1 i) F))))
  | true =>
    have hb' : ((ev i).testBit T || ((ev i).testBit 0 && pm_h T ev i)) = true := hb
    have F := hw (vp_updL s.1 (0 : Int32).toNatClampNeg (s.1 0 ||| ((1 : Int64) <<< ((nI i &&& 63).toInt64 &&& 63))), a7, a8, a9) ⟨h9', pm_jset (z := s.1 0 ||| ((1 : Int64) <<< ((nI i &&& 63).toInt64 &&& 63))) (by omega) h.2 (fun k hk => by
      rw [pm_set _ (by omega) hm k, hb]
      by_cases q : i = k
      · rw [if_pos q]
        simp [q]
      · rw [if_neg q]
        simp [q])⟩
    exact br_f (by rw [hb']; decide) (And.intro (pk_in 0 4 (by omega)) (And.intro (pk_in 0 4 (by omega)) (nm_e (nm_r (nI_1 i) F))))
theorem pm_judge {post : Int32 → St2 → Prop} {T c j : Nat} {ev : Nat → Nat} (hF : pm_F T ev c a1 a5) (hj : j ≤ c) (hR : j = 0 ∨ pm_I T ev j a6 a9) (H : pm_Q T ev c w a1 a5 (post 1)) : wpX_judge post (w, 3, oc, nI c, nI j, a1, a2, a3, a4, a5, a6, a7, a8, a9, a10, a11, a12, a13) := by
  have hc : c ≤ 8 := hF.2.1
  refine pm_c3 (oc := oc) hF.1 hF.2.2.1 hF.2.2.2.1 hF.2.2.2.2.1 (fun a2 a3 a4 hs => br_f (by decide) (pk_eq j 0 (fun z => ?_) (fun z => ?_)))
  · subst z
    exact pm_begin hF.2.2.1 (fun a7 a9 a10 h9 => pm_jl (i := 0) hF hs (by omega) ⟨h9, fun k hk => absurd hk (by omega)⟩ (fun a6 a7 a8 a9 hI => H _ _ _ _ _ _ _ _ _ _ _ _ hs hI))
  · refine pm_jl hF hs hj (hR.resolve_left z) (fun a6 a7 a8 a9 hI => H _ _ _ _ _ _ _ _ _ _ _ _ hs hI)
theorem pm_wt {post : Int32 → Prop} {t : Nat} {b : Bool} (ht : t < 8) (hb : pm_g (a6 0) t = b) (H : post (pm_b b)) : wpX_wasTrue post (w, sz, oc, ct, jd, a1, a2, a3, a4, a5, a6, a7, a8, a9, a10, a11, a12, a13) (nI t) := by
  have e := ts_bit (w := a6 0) (j := t) (by omega) (pm_su t ht)
  have hb' : (a6 0).toBitVec.getLsbD t = b := hb
  rw [hb'] at e
  unfold wpX_wasTrue
  dsimp only
  rw [pm_s6 t ht, sb_cl0]
  refine And.intro (pk_in 0 4 (by omega)) ?_
  cases b with
  | true => exact br_f (fun z => absurd (e.mp z) (by decide)) H
  | false => exact br_t (e.mpr rfl) H
end
end
section
section
variable {w sz oc ct jd : Int32} {a1 a2 a3 a4 a5 : Nat → Int32} {a6 : Nat → Int64} {a7 a8 a9 a10 a11 a12 a13 : Nat → Int32}
/-! the queries over a complete formula -/
theorem pm_at {post : Int32 → St2 → Prop} {T c t j : Nat} {ev : Nat → Nat} {p0 : Int32} (hp : p0 = nI t) (ht : t < c) (hF : pm_F T ev c a1 a5) (hj : j ≤ c) (hR : j = 0 ∨ pm_I T ev j a6 a9) (H : pm_Q T ev c w a1 a5 (post (pm_b (pm_h T ev (t + 1))))) : wpX_at post (w, 3, oc, nI c, nI j, a1, a2, a3, a4, a5, a6, a7, a8, a9, a10, a11, a12, a13) p0 := by
  subst hp
  have hc : c ≤ 8 := hF.2.1
  refine br_f (nI_pos (by omega)) (pk_le c t (fun z => absurd z (by omega)) (fun _ => pm_judge hF hj hR (fun oc a2 a3 a4 a6 a7 a8 a9 a10 a11 a12 a13 hs hI => br_f (by decide) (pm_wt (by omega) (hI.2 t ht) ?_))))
  have t' := H oc a2 a3 a4 a6 a7 a8 a9 a10 a11 a12 a13 hs hI
  cases hb : pm_h T ev (t + 1) with
  | true =>
    rw [hb] at t'
    exact br_f (by decide) t'
  | false =>
    rw [hb] at t'
    exact br_t rfl t'
theorem pm_now {post : Int32 → St2 → Prop} {T c j : Nat} {ev : Nat → Nat} (hF : pm_F T ev (c + 1) a1 a5) (hj : j ≤ c + 1) (hR : j = 0 ∨ pm_I T ev j a6 a9) (H : pm_Q T ev (c + 1) w a1 a5 (post (pm_b (pm_h T ev (c + 1))))) : wpX_now post (w, 3, oc, nI (c + 1), nI j, a1, a2, a3, a4, a5, a6, a7, a8, a9, a10, a11, a12, a13) := by
  unfold wpX_now
  dsimp only
  exact pm_at (t := c) (nI_pred c) (by omega) hF hj hR (fun oc a2 a3 a4 a6 a7 a8 a9 a10 a11 a12 a13 hs hI => And.intro (pm_bn _) (H oc a2 a3 a4 a6 a7 a8 a9 a10 a11 a12 a13 hs hI))
theorem pm_cntS {h : Nat → Bool} {i : Nat} (b : Bool) (hb : h (i + 1) = b) : pm_cnt h (i + 1) = pm_cnt h i + (if b = true then 1 else 0) := by
  subst hb
  rfl
theorem pm_count {post : Int32 → St2 → Prop} {T c j : Nat} {ev : Nat → Nat} (hF : pm_F T ev c a1 a5) (hj : j ≤ c) (hR : j = 0 ∨ pm_I T ev j a6 a9) (H : pm_Q T ev c w a1 a5 (post (nI (pm_cnt (pm_h T ev) c)))) : wpX_count post (w, 3, oc, nI c, nI j, a1, a2, a3, a4, a5, a6, a7, a8, a9, a10, a11, a12, a13) := by
  have hc : c ≤ 8 := hF.2.1
  unfold wpX_count
  dsimp only
  refine pm_judge hF hj hR (fun oc a2 a3 a4 a6 a7 a8 a9 a10 a11 a12 a13 hs hI => br_f (by decide) ?_)
  refine pk_loop (σ := Unit) (fun n i _ => wX_count_13 post w 3 oc (nI c) (nI c) a1 a2 a3 a4 a5 a6 a7 a8 a9 a10 a11 a12 a13 n (nI (pm_cnt (pm_h T ev) i)) (nI i)) (fun _ _ => True) c 0 () (by omega) trivial
    (fun n _ _ => pk_le c c (fun _ => H _ _ _ _ _ _ _ _ _ _ _ _ hs hI) (fun z => absurd z (by omega)))
    (fun n i _ hi _ hw => pk_le c i (fun z => absurd z (by omega)) (fun _ => pm_wt (by omega) (hI.2 i hi) ?_))
  have t := hw () trivial
  cases hb : pm_h T ev (i + 1) with
  | true =>
    rw [pm_cntS true hb] at t
    exact br_f (by decide) (nm_r (nI_1 _) (nm_r (nI_1 i) t))
  | false =>
    rw [pm_cntS false hb] at t
    exact br_t rfl (nm_r (nI_add _ 0) (nm_r (nI_1 i) t))
theorem pm_viol {post : Int32 → St2 → Prop} {T c j : Nat} {ev : Nat → Nat} (hF : pm_F T ev c a1 a5) (hj : j ≤ c) (hR : j = 0 ∨ pm_I T ev j a6 a9) (H : pm_Q T ev c w a1 a5 (post (pm_fst (pm_h T ev) c))) : wpX_violation post (w, 3, oc, nI c, nI j, a1, a2, a3, a4, a5, a6, a7, a8, a9, a10, a11, a12, a13) 0 := by
  have hc : c ≤ 8 := hF.2.1
  refine br_f (by decide) (pm_judge hF hj hR (fun oc a2 a3 a4 a6 a7 a8 a9 a10 a11 a12 a13 hs hI => br_f (by decide) ?_))
  have t := H oc a2 a3 a4 a6 a7 a8 a9 a10 a11 a12 a13 hs hI
  refine pk_loop (σ := Unit) (fun n i _ => wX_violation_15 post w 3 oc (nI c) (nI c) a1 a2 a3 a4 a5 a6 a7 a8 a9 a10 a11 a12 a13 n (nI i)) (fun i _ => ∀ k, k < i → pm_h T ev (k + 1) = true) c 0 () (by omega) (fun k hk => absurd hk (by omega))
    (fun n _ h => pk_le c c (fun _ => ?_) (fun z => absurd z (by omega)))
    (fun n i _ hi h hw => pk_le c i (fun z => absurd z (by omega)) (fun _ => pm_wt (by omega) (hI.2 i hi) ?_))
  · rw [pm_fst1 _ c h] at t
    exact t
  · cases hb : pm_h T ev (i + 1) with
    | true =>
      refine br_f (by decide) (nm_r (nI_1 i) (hw () (fun k hk => ?_)))
      by_cases q : k = i
      · rw [q]
        exact hb
      · exact h k (by omega)
    | false =>
      rw [pm_fst_c _ i c hi (by omega) h hb] at t
      exact br_t rfl t
theorem pm_streak {post : Int32 → St2 → Prop} {T c j : Nat} {ev : Nat → Nat} (hF : pm_F T ev c a1 a5) (hj : j ≤ c) (hR : j = 0 ∨ pm_I T ev j a6 a9) (H : pm_Q T ev c w a1 a5 (post (nI (pm_str (pm_h T ev) c)))) : wpX_streak post (w, 3, oc, nI c, nI j, a1, a2, a3, a4, a5, a6, a7, a8, a9, a10, a11, a12, a13) := by
  have hc : c ≤ 8 := hF.2.1
  unfold wpX_streak
  dsimp only
  refine pm_judge hF hj hR (fun oc a2 a3 a4 a6 a7 a8 a9 a10 a11 a12 a13 hs hI => br_f (by decide) ?_)
  have t := H oc a2 a3 a4 a6 a7 a8 a9 a10 a11 a12 a13 hs hI
  have key : ∀ n, n ≤ c → (n = c ∨ pm_h T ev (c - n) = false) → (∀ k, k < n → pm_h T ev (c - k) = true) → pm_str (pm_h T ev) c = n := by
    intro n hn e h
    have q := pm_strN (pm_h T ev) (c - n) n (by rcases e with e | e; left; omega; right; exact e) (fun k hk => by
      have q := h (n - k - 1) (by omega)
      rw [show c - (n - k - 1) = c - n + k + 1 by omega] at q
      exact q)
    rw [show c - n + n = c by omega] at q
    exact q
  refine pk_loop (σ := Unit) (fun n i _ => wX_streak_11 post w 3 oc (nI c) (nI c) a1 a2 a3 a4 a5 a6 a7 a8 a9 a10 a11 a12 a13 n (nI i)) (fun i _ => ∀ k, k < i → pm_h T ev (c - k) = true) c 0 () (by omega) (fun k hk => absurd hk (by omega))
    (fun n _ h => pk_le c c (fun _ => ?_) (fun z => absurd z (by omega)))
    (fun n i _ hi h hw => pk_le c i (fun z => absurd z (by omega)) (fun _ => ?_))
  · rw [key c (by omega) (Or.inl rfl) h] at t
    exact t
  · have e : (nI c - 1) - nI i = nI (c - 1 - i) := by
      have e1 : nI c - 1 = nI (c - 1) := pk_sub (a := c) (b := 1) (by omega)
      rw [e1, pk_sub (by omega)]
    rw [e]
    have b := hI.2 (c - 1 - i) (by omega)
    rw [show c - 1 - i + 1 = c - i by omega] at b
    refine pm_wt (by omega) b ?_
    cases hb : pm_h T ev (c - i) with
    | true =>
      refine br_f (by decide) (nm_r (nI_1 i) (hw () (fun k hk => ?_)))
      by_cases q : k = i
      · rw [q]
        exact hb
      · exact h k (by omega)
    | false =>
      rw [key i (by omega) (Or.inr hb) h] at t
      exact br_t rfl t
end
end
section
section
variable {w sz oc ct jd : Int32} {a1 a2 a3 a4 a5 : Nat → Int32} {a6 : Nat → Int64} {a7 a8 a9 a10 a11 a12 a13 : Nat → Int32}
/-! imagine, wouldHold, allowed -/
theorem pm_im62 {post : Int32 → St2 → Prop} {m r : Bool} (h12 : a12 0 = pm_b m) (H : ∀ a7 a9 a10 : Nat → Int32, a9 0 = pm_b m → post (pm_b r) (w, sz, oc, ct, jd, a1, a2, a3, a4, a5, a6, a7, a8, a9, a10, a11, a12, a13)) : ∃ n, wX_imagine_62 post (pm_b r) w sz oc ct jd n 0 a1 a2 a3 a4 a5 a6 a7 a8 a9 a10 a11 a12 a13 :=
  loop_0 (fun n i (s : (Nat → Int32) × (Nat → Int32) × (Nat → Int32)) => wX_imagine_62 post (pm_b r) w sz oc ct jd n (nI i) a1 a2 a3 a4 a5 a6 s.1 a8 s.2.1 s.2.2 a11 a12 a13) (fun i s => 0 < i → s.2.1 0 = pm_b m) 14 (a7, a9, a10) (fun z => absurd z (by omega))
    (fun n s h => pk_le 14 14 (fun _ => And.intro (pm_bn _) (H _ _ _ (h (by omega)))) (fun z => absurd z (by omega)))
    (fun n i s hi h hw => pk_le 14 i (fun z => absurd z (by omega)) (fun _ => And.intro (pk_in i 14 hi) (And.intro (pk_in i 14 hi) (nm_e (And.intro (pk_in i 14 hi) (And.intro (pk_in i 14 hi) (nm_e (And.intro (pk_in i 14 hi) (And.intro (pk_in i 14 hi) (nm_e (nm_r (nI_1 i) (hw (_, _, _) (fun _ => by
      dsimp only
      rw [nI_clamp (by omega)]
      rcases Nat.eq_zero_or_pos i with e | e
      · subst e
        rw [h12]
        exact pm_u0 (f := s.2.1) rfl (pm_bv m)
      · exact pm_un (by omega) (h e))))))))))))))
theorem pm_imag {post : Int32 → St2 → Prop} {T c x : Nat} {ev : Nat → Nat} {p0 : Int32} (hp : p0 = nI x) (hx : x < 16) (hF : pm_F T ev c a1 a5) (hs : a2 0 = 2) (hI : pm_I T ev c a6 a9) (H : pm_Q T ev c w a1 a5 (post (pm_b (x.testBit T || (x.testBit 0 && pm_h T ev c))))) : wpX_imagine post (w, 3, oc, nI c, nI c, a1, a2, a3, a4, a5, a6, a7, a8, a9, a10, a11, a12, a13) p0 :=
  loop_0 (fun n i (s : (Nat → Int32) × (Nat → Int32) × (Nat → Int32)) => wX_imagine_2 post p0 w 3 oc (nI c) (nI c) n (nI i) a1 a2 a3 a4 a5 a6 a7 a8 a9 a10 s.1 s.2.1 s.2.2) (fun i s => 0 < i → s.2.1 0 = pm_b (pm_h T ev c)) 14 (a11, a12, a13) (fun z => absurd z (by omega))
    (fun n s h => pk_le 14 14 (fun _ => pm_step hp hF.1 hx hF.2.2.1 hF.2.2.2.1 hF.2.2.2.2.1 hs hI.1 (fun a7 a8 a9 h9 => pm_im62 (m := pm_h T ev c) (h (by omega)) (fun a7 a9 a10 h9 => H _ _ _ _ _ _ _ _ _ _ _ _ hs ⟨h9, hI.2⟩))) (fun z => absurd z (by omega)))
    (fun n i s hi h hw => pk_le 14 i (fun z => absurd z (by omega)) (fun _ => And.intro (pk_in i 14 hi) (And.intro (pk_in i 14 hi) (nm_e (And.intro (pk_in i 14 hi) (And.intro (pk_in i 14 hi) (nm_e (And.intro (pk_in i 14 hi) (And.intro (pk_in i 14 hi) (nm_e (nm_r (nI_1 i) (hw (_, _, _) (fun _ => by
      dsimp only
      rw [nI_clamp (by omega)]
      rcases Nat.eq_zero_or_pos i with e | e
      · subst e
        rw [hI.1]
        exact pm_u0 (f := s.2.1) rfl (pm_bv _)
      · exact pm_un (by omega) (h e))))))))))))))
theorem pm_would {post : Int32 → St2 → Prop} {T c j x : Nat} {ev : Nat → Nat} {p0 : Int32} (hp : p0 = nI x) (hx : x < 16) (hF : pm_F T ev c a1 a5) (hj : j ≤ c) (hR : j = 0 ∨ pm_I T ev j a6 a9) (H : pm_Q T ev c w a1 a5 (post (pm_b (x.testBit T || (x.testBit 0 && pm_h T ev c))))) : wpX_wouldHold post (w, 3, oc, nI c, nI j, a1, a2, a3, a4, a5, a6, a7, a8, a9, a10, a11, a12, a13) p0 := by
  subst hp
  refine br_f (nI_pos (by omega)) (pk_lt 15 x (fun z => absurd z (by omega)) (fun _ => pm_judge hF hj hR (fun oc a2 a3 a4 a6 a7 a8 a9 a10 a11 a12 a13 hs hI => br_f (by decide) (pm_imag rfl hx hF hs hI (fun oc a2 a3 a4 a6 a7 a8 a9 a10 a11 a12 a13 hs hI => ?_)))))
  have t := H oc a2 a3 a4 a6 a7 a8 a9 a10 a11 a12 a13 hs hI
  cases hb : (x.testBit T || (x.testBit 0 && pm_h T ev c)) with
  | true =>
    rw [hb] at t
    exact br_f (by decide) t
  | false =>
    rw [hb] at t
    exact br_t rfl t
theorem pm_alS {T i : Nat} {m : Bool} (b : Bool) (hb : (i.testBit T || (i.testBit 0 && m)) = b) : pm_al T m (i + 1) = pm_al T m i + (if b = true then 1 else 0) := by
  subst hb
  rfl
theorem pm_allowed {post : Int32 → St2 → Prop} {T c : Nat} {ev : Nat → Nat} (hF : pm_F T ev c a1 a5) (hs : a2 0 = 2) (hI : pm_I T ev c a6 a9) (H : pm_Q T ev c w a1 a5 (post (nI (pm_al T (pm_h T ev c) 16)))) : wpX_allowed post (w, 3, oc, nI c, nI c, a1, a2, a3, a4, a5, a6, a7, a8, a9, a10, a11, a12, a13) := by
  have hc : c ≤ 8 := hF.2.1
  refine loop_0 (fun n i (s : Int32 × (Nat → Int32) × (Nat → Int32) × (Nat → Int32) × (Nat → Int64) × (Nat → Int32) × (Nat → Int32) × (Nat → Int32) × (Nat → Int32) × (Nat → Int32) × (Nat → Int32) × (Nat → Int32)) => wX_allowed_4 post n (nI (pm_al T (pm_h T ev c) i)) (nI i) w 3 s.1 (nI c) (nI c) a1 s.2.1 s.2.2.1 s.2.2.2.1 a5 s.2.2.2.2.1 s.2.2.2.2.2.1 s.2.2.2.2.2.2.1 s.2.2.2.2.2.2.2.1 s.2.2.2.2.2.2.2.2.1 s.2.2.2.2.2.2.2.2.2.1 s.2.2.2.2.2.2.2.2.2.2.1 s.2.2.2.2.2.2.2.2.2.2.2)
    (fun _ s => s.2.1 0 = 2 ∧ pm_I T ev c s.2.2.2.2.1 s.2.2.2.2.2.2.2.1) 16 (oc, a2, a3, a4, a6, a7, a8, a9, a10, a11, a12, a13) ⟨hs, hI⟩
    (fun n s h => pk_le 16 16 (fun _ => H _ _ _ _ _ _ _ _ _ _ _ _ h.1 h.2) (fun z => absurd z (by omega)))
    (fun n i s hi h hw => pk_le 16 i (fun z => absurd z (by omega)) (fun _ => pm_would rfl hi hF (Nat.le_refl c) (Or.inr h.2) (fun oc a2 a3 a4 a6 a7 a8 a9 a10 a11 a12 a13 hs hI => ?_)))
  have t := hw (oc, a2, a3, a4, a6, a7, a8, a9, a10, a11, a12, a13) ⟨hs, hI⟩
  cases hb : (i.testBit T || (i.testBit 0 && pm_h T ev c)) with
  | true =>
    rw [pm_alS true hb] at t
    exact br_f (by decide) (nm_r (nI_1 _) (nm_r (nI_1 i) t))
  | false =>
    rw [pm_alS false hb] at t
    exact br_t rfl (nm_r (nI_add _ 0) (nm_r (nI_1 i) t))
end
end
section
section
variable {w sz oc ct jd : Int32} {a1 a2 a3 a4 a5 : Nat → Int32} {a6 : Nat → Int64} {a7 a8 a9 a10 a11 a12 a13 : Nat → Int32}
/-! the queries over the open formula of two tokens -/
def pm_Z (w : Int32) (a1 a2 a5 : Nat → Int32) (a6 : Nat → Int64) (a7 a8 a9 a10 a11 a12 a13 : Nat → Int32) (post : St2 → Prop) : Prop := ∀ (oc : Int32) (a3 a4 : Nat → Int32), post (w, 2, oc, 7, 0, a1, a2, a3, a4, a5, a6, a7, a8, a9, a10, a11, a12, a13)
theorem pm_judge2 {post : Int32 → St2 → Prop} (h0 : a1 0 = 10) (h1 : a1 1 = 0) (H : pm_Z w a1 a2 a5 a6 a7 a8 a9 a10 a11 a12 a13 (post 0)) : wpX_judge post (w, 2, oc, 7, 0, a1, a2, a3, a4, a5, a6, a7, a8, a9, a10, a11, a12, a13) := by
  unfold wpX_judge
  dsimp only
  exact pm_c2 h0 h1 (fun oc a3 a4 => br_t rfl (H oc a3 a4))
theorem pm_count2 {post : Int32 → St2 → Prop} (h0 : a1 0 = 10) (h1 : a1 1 = 0) (H : pm_Z w a1 a2 a5 a6 a7 a8 a9 a10 a11 a12 a13 (post (-1))) : wpX_count post (w, 2, oc, 7, 0, a1, a2, a3, a4, a5, a6, a7, a8, a9, a10, a11, a12, a13) := by
  unfold wpX_count
  dsimp only
  exact pm_judge2 h0 h1 (fun oc a3 a4 => br_t rfl (H oc a3 a4))
theorem pm_streak2 {post : Int32 → St2 → Prop} (h0 : a1 0 = 10) (h1 : a1 1 = 0) (H : pm_Z w a1 a2 a5 a6 a7 a8 a9 a10 a11 a12 a13 (post (-1))) : wpX_streak post (w, 2, oc, 7, 0, a1, a2, a3, a4, a5, a6, a7, a8, a9, a10, a11, a12, a13) := by
  unfold wpX_streak
  dsimp only
  exact pm_judge2 h0 h1 (fun oc a3 a4 => br_t rfl (H oc a3 a4))
theorem pm_viol2 {post : Int32 → St2 → Prop} (h0 : a1 0 = 10) (h1 : a1 1 = 0) (H : pm_Z w a1 a2 a5 a6 a7 a8 a9 a10 a11 a12 a13 (post (-1))) : wpX_violation post (w, 2, oc, 7, 0, a1, a2, a3, a4, a5, a6, a7, a8, a9, a10, a11, a12, a13) 0 :=
  br_f (by decide) (pm_judge2 h0 h1 (fun oc a3 a4 => br_t rfl (H oc a3 a4)))
theorem pm_at2 {post : Int32 → St2 → Prop} {p0 : Int32} (hp : p0 = 6) (h0 : a1 0 = 10) (h1 : a1 1 = 0) (H : pm_Z w a1 a2 a5 a6 a7 a8 a9 a10 a11 a12 a13 (post 0)) : wpX_at post (w, 2, oc, 7, 0, a1, a2, a3, a4, a5, a6, a7, a8, a9, a10, a11, a12, a13) p0 := by
  subst hp
  exact br_f (by decide) (br_f (by decide) (pm_judge2 h0 h1 (fun oc a3 a4 => br_t rfl (H oc a3 a4))))
theorem pm_now2 {post : Int32 → St2 → Prop} (h0 : a1 0 = 10) (h1 : a1 1 = 0) (H : pm_Z w a1 a2 a5 a6 a7 a8 a9 a10 a11 a12 a13 (post 0)) : wpX_now post (w, 2, oc, 7, 0, a1, a2, a3, a4, a5, a6, a7, a8, a9, a10, a11, a12, a13) := by
  unfold wpX_now
  dsimp only
  exact pm_at2 (by decide) h0 h1 (fun oc a3 a4 => And.intro (pm_bn false) (H oc a3 a4))
theorem pm_would2 {post : Int32 → St2 → Prop} {x : Nat} (hx : x < 16) (h0 : a1 0 = 10) (h1 : a1 1 = 0) (H : pm_Z w a1 a2 a5 a6 a7 a8 a9 a10 a11 a12 a13 (post 0)) : wpX_wouldHold post (w, 2, oc, 7, 0, a1, a2, a3, a4, a5, a6, a7, a8, a9, a10, a11, a12, a13) (nI x) :=
  br_f (nI_pos (by omega)) (pk_lt 15 x (fun z => absurd z (by omega)) (fun _ => pm_judge2 h0 h1 (fun oc a3 a4 => br_t rfl (H oc a3 a4))))
theorem pm_allowed2 {post : Int32 → St2 → Prop} (h0 : a1 0 = 10) (h1 : a1 1 = 0) (H : pm_Z w a1 a2 a5 a6 a7 a8 a9 a10 a11 a12 a13 (post 0)) : wpX_allowed post (w, 2, oc, 7, 0, a1, a2, a3, a4, a5, a6, a7, a8, a9, a10, a11, a12, a13) :=
  loop_0 (fun n i (s : Int32 × (Nat → Int32) × (Nat → Int32)) => wX_allowed_4 post n 0 (nI i) w 2 s.1 7 0 a1 a2 s.2.1 s.2.2 a5 a6 a7 a8 a9 a10 a11 a12 a13) (fun _ _ => True) 16 (oc, a3, a4) trivial
    (fun n s _ => pk_le 16 16 (fun _ => H _ _ _) (fun z => absurd z (by omega)))
    (fun n i s hi _ hw => pk_le 16 i (fun z => absurd z (by omega)) (fun _ => pm_would2 hi h0 h1 (fun oc a3 a4 => br_t rfl (nm_r (e' := 0) (by decide) (nm_r (nI_1 i) (hw (oc, a3, a4) trivial))))))
end
end
section
section
variable {w sz oc ct jd : Int32} {a1 a2 a3 a4 a5 : Nat → Int32} {a6 : Nat → Int64} {a7 a8 a9 a10 a11 a12 a13 : Nat → Int32}
/-! the law: behind its loop -/
theorem pm_389 {post : Int32 → St0 → Prop} {mc ms kc ks : Nat} {x2 x8 x9 : Int32} {ev : Nat → Nat} (hx8 : x8 = pm_b (pm_h 1 ev 8)) (hx9 : x9 = nI (pm_cnt (pm_h 1 ev) 8)) (h0 : a1 0 = 10) (h1 : a1 1 = 0) (h5 : ∀ k, k < 7 → a5 k = nI (ev k)) (hev : ∀ k, ev k < 16) (H : post 1 ()) : wL_lawOf_389 post mc ms x2 x8 x9 1 kc ks w 2 oc 7 0 a1 a2 a3 a4 a5 a6 a7 a8 a9 a10 a11 a12 a13 := by
  obtain ⟨T, hT, e⟩ := pk_andE x2 (m := 3) 2 (by decide)
  have hT' : T < 4 := hT
  unfold wL_lawOf_389
  rw [e]
  have hF : pm_F T ev 7 (upd a1 2 (nI T)) a5 := ⟨hT', by omega, pm_un (by decide) h0, pm_un (by decide) h1, pk_us, h5, hev⟩
  have hc := pm_cnt_le (pm_h T ev) 7
  refine pm_feed (s := 2) (x := T) (by omega) (by omega) (fun _ => h0) (fun _ => h1) (fun oc a3 a4 => ?_)
  refine pm_count (c := 7) (j := 0) hF (by omega) (Or.inl rfl) (fun oc a2 a3 a4 a6 a7 a8 a9 a10 a11 a12 a13 hs hI => br_f (by decide) (br_t (by decide) (pm_c3 hT' hF.2.2.1 hF.2.2.2.1 hF.2.2.2.2.1 (fun a2 a3 a4 _ => br_f (by decide) (br_t (by decide) (br_f (nI_pos (by omega)) ?_))))))
  refine pk_eq T 1 (fun z => ?_) (fun _ => H)
  subst z
  cases hb : pm_h 1 ev 8 with
  | false => exact br_t (by rw [hx8, hb]; rfl) (br_t (by rw [hx9, pm_cntS false hb]; exact (Int32.sub_zero _).symm) H)
  | true => exact br_f (by rw [hx8, hb]; decide) (br_t (by rw [hx9, pm_cntS true hb]; exact (nI_pred _).symm) H)
theorem pm_313 {post : Int32 → St0 → Prop} {mc ms kc ks : Nat} {x2 x8 x9 : Int32} {ev : Nat → Nat} (hx8 : x8 = pm_b (pm_h 1 ev 8)) (hx9 : x9 = nI (pm_cnt (pm_h 1 ev) 8)) (hF : pm_F 1 ev 8 a1 a5) (H : post 1 ()) : wL_lawOf_313 post mc ms x2 x8 x9 1 kc ks w 3 oc 8 8 a1 a2 a3 a4 a5 a6 a7 a8 a9 a10 a11 a12 a13 := by
  obtain ⟨_, _, h0, h1, h2, h5, hev⟩ := hF
  refine pm_undo (pm_back (T := 1) h2 (br_f (by decide) (br_t rfl (br_t (by decide) ?_))))
  refine pm_count2 h0 h1 (fun oc a3 a4 => br_t rfl ?_)
  refine pm_now2 h0 h1 (fun oc a3 a4 => br_t rfl ?_)
  refine pm_viol2 h0 h1 (fun oc a3 a4 => br_t rfl ?_)
  refine pm_streak2 h0 h1 (fun oc a3 a4 => br_t rfl ?_)
  refine pm_allowed2 h0 h1 (fun oc a3 a4 => br_t rfl ?_)
  exact pm_389 hx8 hx9 h0 h1 (fun k hk => h5 k (by omega)) hev H
theorem pm_exit {post : Int32 → St0 → Prop} {mc ms kc ks n : Nat} {x0 x1 x2 : Int32} {ev : Nat → Nat} (hF : pm_F 1 ev 8 a1 a5) (hI : pm_I 1 ev 7 a6 a9) (H : post 1 ()) : wL_lawOf_88 post mc ms x0 x1 x2 kc ks (n + 1) 1 (pm_b (pm_h 1 ev 8)) (nI (pm_cnt (pm_h 1 ev) 8)) (nI (pm_str (pm_h 1 ev) 8)) (pm_fst (pm_h 1 ev) 8) 8 w 3 oc 8 7 a1 a2 a3 a4 a5 a6 a7 a8 a9 a10 a11 a12 a13 := by
  refine br_t (by decide) (br_f (by decide) ?_)
  refine pm_now (c := 7) (j := 7) hF (by omega) (Or.inr hI) (fun oc a2 a3 a4 a6 a7 a8 a9 a10 a11 a12 a13 hs hI => br_t rfl ?_)
  refine pm_count (c := 8) (j := 8) hF (by omega) (Or.inr hI) (fun oc a2 a3 a4 a6 a7 a8 a9 a10 a11 a12 a13 hs hI => br_t rfl ?_)
  refine pm_streak (c := 8) (j := 8) hF (by omega) (Or.inr hI) (fun oc a2 a3 a4 a6 a7 a8 a9 a10 a11 a12 a13 hs hI => br_t rfl ?_)
  refine pm_viol (c := 8) (j := 8) hF (by omega) (Or.inr hI) (fun oc a2 a3 a4 a6 a7 a8 a9 a10 a11 a12 a13 hs hI => br_t rfl ?_)
  refine pm_allowed (c := 8) hF hs hI (fun oc a2 a3 a4 a6 a7 a8 a9 a10 a11 a12 a13 hs hI => ?_)
  cases hb : pm_h 1 ev 8 with
  | false => exact br_t rfl (br_t (by rw [pm_al_f]; rfl) (pm_313 (by rw [hb]) rfl hF H))
  | true => exact br_f (by decide) (br_t (by rw [pm_al_t]; rfl) (pm_313 (by rw [hb]) rfl hF H))
/-! one turn of the law's loop -/
def pm_a (x : Int32) (t : Nat) : Nat := if (x >>> (nI t &&& 31)) &&& 1 = 1 then 1 else 0
theorem pm_a2 (x : Int32) (t : Nat) : pm_a x t < 2 := by
  unfold pm_a
  split <;> omega
theorem pm_ax (x : Int32) (t : Nat) : (x >>> (nI t &&& 31)) &&& 1 = nI (pm_a x t) := by
  obtain ⟨j, hj, e⟩ := pk_andE (x >>> (nI t &&& 31)) (m := 1) 1 (by decide)
  have hj' : j = 0 ∨ j = 1 := by omega
  unfold pm_a
  rw [e]
  rcases hj' with q | q
  · subst q
    rw [if_neg (by decide)]
  · subst q
    rw [if_pos (by decide)]
def pm_ev (x0 x1 : Int32) (t : Nat) : Nat := pm_a x0 t + 2 * pm_a x1 t
theorem pm_ev16 (x0 x1 : Int32) (t : Nat) : pm_ev x0 x1 t < 16 := by
  have a := pm_a2 x0 t
  have b := pm_a2 x1 t
  unfold pm_ev
  omega
theorem pm_nl (x : Int32) : ¬ 0 ≤ x ↔ x < 0 := by
  have h0 : (0 : Int32).toInt = 0 := by decide
  rw [Int32.le_iff_toInt_le, Int32.lt_iff_toInt_lt, h0]
  omega
theorem pm_due {post : Int32 → St0 → Prop} {mc ms kc ks n t : Nat} {x0 x1 x2 z : Int32} (ht : t < 8) (hF : pm_F 1 (pm_ev x0 x1) t a1 a5) (hR : t - 1 = 0 ∨ pm_I 1 (pm_ev x0 x1) (t - 1) a6 a9) (hz : z = pm_b (pm_h 1 (pm_ev x0 x1) (t + 1)))
    (hw : ∀ (oc : Int32) (a2 a3 a4 a5 : Nat → Int32) (a6 : Nat → Int64) (a7 a8 a9 a10 a11 a12 a13 : Nat → Int32), (∀ k, k < t + 1 → a5 k = nI (pm_ev x0 x1 k)) → pm_I 1 (pm_ev x0 x1) t a6 a9 → wL_lawOf_88 post mc ms x0 x1 x2 kc ks n 1 (pm_b (pm_h 1 (pm_ev x0 x1) (t + 1))) (nI (pm_cnt (pm_h 1 (pm_ev x0 x1)) (t + 1))) (nI (pm_str (pm_h 1 (pm_ev x0 x1)) (t + 1))) (pm_fst (pm_h 1 (pm_ev x0 x1)) (t + 1)) (nI (t + 1)) w 3 oc (nI (t + 1)) (nI t) a1 a2 a3 a4 a5 a6 a7 a8 a9 a10 a11 a12 a13) :
    wL_lawOf_133 post mc ms (wL_lawOf_88 post mc ms x0 x1 x2 kc ks n) x0 x1 x2 1 (nI (pm_cnt (pm_h 1 (pm_ev x0 x1)) t)) (nI (pm_str (pm_h 1 (pm_ev x0 x1)) t)) (pm_fst (pm_h 1 (pm_ev x0 x1)) t) (nI t) (nI (pm_a x0 t)) (nI (pm_a x1 t)) z kc ks w 3 oc (nI t) (nI (t - 1)) a1 a2 a3 a4 a5 a6 a7 a8 a9 a10 a11 a12 a13 := by
  subst hz
  have hp : nI (pm_a x0 t) ||| (nI (pm_a x1 t) <<< ((1 : Int32) &&& 31)) = nI (pm_ev x0 x1 t) := pm_or _ (pm_a2 _ _) _ (pm_a2 _ _)
  refine pm_would hp (pm_ev16 x0 x1 t) hF (by omega) hR (fun oc a2 a3 a4 a6 a7 a8 a9 a10 a11 a12 a13 hs hI => pm_event hp (pm_ev16 x0 x1 t) (by omega) ?_)
  have F := hw oc a2 a3 a4 (upd a5 t (nI (pm_ev x0 x1 t))) a6 a7 a8 a9 a10 a11 a12 a13 (fun k hk => by
    by_cases q : k = t
    · rw [q]
      exact pk_us
    · rw [pk_un q]
      exact hF.2.2.2.2.2.1 k (by omega)) hI
  cases hb : pm_h 1 (pm_ev x0 x1) (t + 1) with
  | false =>
    have e1 : pm_cnt (pm_h 1 (pm_ev x0 x1)) (t + 1) = pm_cnt (pm_h 1 (pm_ev x0 x1)) t := pm_cntS false hb
    have e2 : pm_str (pm_h 1 (pm_ev x0 x1)) (t + 1) = 0 := pm_str0 _ _ (Or.inr hb)
    have e4 : pm_b ((pm_ev x0 x1 t).testBit 1 || ((pm_ev x0 x1 t).testBit 0 && pm_h 1 (pm_ev x0 x1) t)) = pm_b false := congrArg pm_b hb
    rw [hb, e1, e2] at F
    refine br_t rfl (br_t rfl (br_t rfl ?_))
    by_cases q : 0 ≤ pm_fst (pm_h 1 (pm_ev x0 x1)) t
    · have e3 : pm_fst (pm_h 1 (pm_ev x0 x1)) (t + 1) = pm_fst (pm_h 1 (pm_ev x0 x1)) t := if_neg (fun z => (pm_nl _).mpr z.2 q)
      rw [e3] at F
      exact br_t q (br_f (by decide) (br_t rfl (br_t e4 (nm_r (nI_1 t) F))))
    · have e3 : pm_fst (pm_h 1 (pm_ev x0 x1)) (t + 1) = nI t := if_pos ⟨hb, (pm_nl _).mp q⟩
      rw [e3] at F
      exact br_f q (br_f (by decide) (br_t rfl (br_t e4 (nm_r (nI_1 t) F))))
  | true =>
    have e1 : nI (pm_cnt (pm_h 1 (pm_ev x0 x1)) (t + 1)) = nI (pm_cnt (pm_h 1 (pm_ev x0 x1)) t) + 1 := by
      rw [pm_cntS true hb]
      exact (nI_1 _).symm
    have e2 : nI (pm_str (pm_h 1 (pm_ev x0 x1)) (t + 1)) = nI (pm_str (pm_h 1 (pm_ev x0 x1)) t) + 1 := by
      rw [show pm_str (pm_h 1 (pm_ev x0 x1)) (t + 1) = pm_str (pm_h 1 (pm_ev x0 x1)) t + 1 from if_pos hb]
      exact (nI_1 _).symm
    have e3 : pm_fst (pm_h 1 (pm_ev x0 x1)) (t + 1) = pm_fst (pm_h 1 (pm_ev x0 x1)) t := if_neg (fun z => absurd (hb.symm.trans z.1) (by decide))
    have e4 : pm_b ((pm_ev x0 x1 t).testBit 1 || ((pm_ev x0 x1 t).testBit 0 && pm_h 1 (pm_ev x0 x1) t)) = pm_b true := congrArg pm_b hb
    rw [hb, e1, e2, e3] at F
    exact br_f (by decide) (br_f (by decide) (br_f (by decide) (br_f (by decide) (br_t rfl (br_t e4 (nm_r (nI_1 t) F))))))
theorem pm_turn {post : Int32 → St0 → Prop} {mc ms kc ks n t : Nat} {x0 x1 x2 : Int32} (ht : t < 8) (hF : pm_F 1 (pm_ev x0 x1) t a1 a5) (hR : t - 1 = 0 ∨ pm_I 1 (pm_ev x0 x1) (t - 1) a6 a9)
    (hw : ∀ (oc : Int32) (a2 a3 a4 a5 : Nat → Int32) (a6 : Nat → Int64) (a7 a8 a9 a10 a11 a12 a13 : Nat → Int32), (∀ k, k < t + 1 → a5 k = nI (pm_ev x0 x1 k)) → pm_I 1 (pm_ev x0 x1) t a6 a9 → wL_lawOf_88 post mc ms x0 x1 x2 kc ks n 1 (pm_b (pm_h 1 (pm_ev x0 x1) (t + 1))) (nI (pm_cnt (pm_h 1 (pm_ev x0 x1)) (t + 1))) (nI (pm_str (pm_h 1 (pm_ev x0 x1)) (t + 1))) (pm_fst (pm_h 1 (pm_ev x0 x1)) (t + 1)) (nI (t + 1)) w 3 oc (nI (t + 1)) (nI t) a1 a2 a3 a4 a5 a6 a7 a8 a9 a10 a11 a12 a13) :
    wL_lawOf_88 post mc ms x0 x1 x2 kc ks (n + 1) 1 (pm_b (pm_h 1 (pm_ev x0 x1) t)) (nI (pm_cnt (pm_h 1 (pm_ev x0 x1)) t)) (nI (pm_str (pm_h 1 (pm_ev x0 x1)) t)) (pm_fst (pm_h 1 (pm_ev x0 x1)) t) (nI t) w 3 oc (nI t) (nI (t - 1)) a1 a2 a3 a4 a5 a6 a7 a8 a9 a10 a11 a12 a13 := by
  have A2 := pm_a2 x0 t
  have B2 := pm_a2 x1 t
  have hh : pm_h 1 (pm_ev x0 x1) (t + 1) = (decide (pm_a x1 t = 1) || (decide (pm_a x0 t = 1) && pm_h 1 (pm_ev x0 x1) t)) := by
    show ((pm_a x0 t + 2 * pm_a x1 t).testBit 1 || ((pm_a x0 t + 2 * pm_a x1 t).testBit 0 && pm_h 1 (pm_ev x0 x1) t)) = _
    rw [pm_t1 _ A2 _ B2, pm_t0 _ A2 _ B2]
  have D1 : pm_h 1 (pm_ev x0 x1) (t + 1) = true → (1 : Int32) = pm_b (pm_h 1 (pm_ev x0 x1) (t + 1)) := fun q => by rw [q]; rfl
  have D0 : pm_h 1 (pm_ev x0 x1) (t + 1) = false → (0 : Int32) = pm_b (pm_h 1 (pm_ev x0 x1) (t + 1)) := fun q => by rw [q]; rfl
  refine pk_le 8 t (fun z => absurd z (by omega)) (fun _ => nm_r (pm_ax x0 t) (nm_r (pm_ax x1 t) ?_))
  refine pk_eq (pm_a x1 t) 1 (fun z => pm_due ht hF hR (D1 ?_) hw) (fun z => pk_eq (pm_a x0 t) 1 (fun z' => br_c (fun e => pm_due ht hF hR (D0 ?_) hw) (fun e => pm_due ht hF hR (D1 ?_) hw)) (fun z' => pm_due ht hF hR (D0 ?_) hw))
  · rw [hh]
    simp [z]
  · rw [hh, (pm_b0 _).mp e]
    simp [z]
  · have e' : pm_h 1 (pm_ev x0 x1) t = true := by
      cases hb : pm_h 1 (pm_ev x0 x1) t with
      | true => rfl
      | false => exact absurd ((pm_b0 _).mpr hb) e
    rw [hh, e']
    simp [z']
  · rw [hh]
    simp [z, z']
theorem pm_loop {post : Int32 → St0 → Prop} {mc ms kc ks : Nat} {x0 x1 x2 : Int32} (h0 : a1 0 = 10) (h1 : a1 1 = 0) (h2 : a1 2 = nI 1) (H : post 1 ()) : ∃ n, wL_lawOf_88 post mc ms x0 x1 x2 kc ks n 1 0 0 0 (-1) 0 w 3 oc 0 0 a1 a2 a3 a4 a5 a6 a7 a8 a9 a10 a11 a12 a13 :=
  loop_0 (fun n t (s : Int32 × (Nat → Int32) × (Nat → Int32) × (Nat → Int32) × (Nat → Int32) × (Nat → Int64) × (Nat → Int32) × (Nat → Int32) × (Nat → Int32) × (Nat → Int32) × (Nat → Int32) × (Nat → Int32) × (Nat → Int32)) => wL_lawOf_88 post mc ms x0 x1 x2 kc ks n 1 (pm_b (pm_h 1 (pm_ev x0 x1) t)) (nI (pm_cnt (pm_h 1 (pm_ev x0 x1)) t)) (nI (pm_str (pm_h 1 (pm_ev x0 x1)) t)) (pm_fst (pm_h 1 (pm_ev x0 x1)) t) (nI t) w 3 s.1 (nI t) (nI (t - 1)) a1 s.2.1 s.2.2.1 s.2.2.2.1 s.2.2.2.2.1 s.2.2.2.2.2.1 s.2.2.2.2.2.2.1 s.2.2.2.2.2.2.2.1 s.2.2.2.2.2.2.2.2.1 s.2.2.2.2.2.2.2.2.2.1 s.2.2.2.2.2.2.2.2.2.2.1 s.2.2.2.2.2.2.2.2.2.2.2.1 s.2.2.2.2.2.2.2.2.2.2.2.2)
    (fun t s => (∀ k, k < t → s.2.2.2.2.1 k = nI (pm_ev x0 x1 k)) ∧ (t - 1 = 0 ∨ pm_I 1 (pm_ev x0 x1) (t - 1) s.2.2.2.2.2.1 s.2.2.2.2.2.2.2.2.1)) 8 (oc, a2, a3, a4, a5, a6, a7, a8, a9, a10, a11, a12, a13) ⟨fun k hk => absurd hk (by omega), Or.inl rfl⟩
    (fun n s h => pm_exit ⟨by omega, by omega, h0, h1, h2, h.1, pm_ev16 x0 x1⟩ (h.2.resolve_left (by omega)) H)
    (fun n t s ht h hw => pm_turn ht ⟨by omega, by omega, h0, h1, h2, h.1, pm_ev16 x0 x1⟩ h.2 (fun oc a2 a3 a4 a5 a6 a7 a8 a9 a10 a11 a12 a13 h5 hI => hw (oc, a2, a3, a4, a5, a6, a7, a8, a9, a10, a11, a12, a13) ⟨h5, Or.inr hI⟩))
end
end
section
/-! the law's head, and what is owed -/
theorem pm_init {post : St2 → Prop} (H : post (3, 0, 0, 0, 0, (fun _ => 0), (fun _ => 0), (fun _ => 0), (fun _ => 0), (fun _ => 0), (fun _ => 0), (fun _ => 0), (fun _ => 0), (fun _ => 0), (fun _ => 0), (fun _ => 0), (fun _ => 0), (fun _ => 0))) : wpX_init post 13 362 (0, 0, 0, 0, 0) 3 := by
  unfold wpX_init
  dsimp only
  repeat (refine And.intro (by decide) ?_)
  exact br_t (by decide) (br_t (by decide) H)
theorem pm_lawOf {post : Int32 → St0 → Prop} {p0 p1 p2 : Int32} (H : post 1 ()) : wpL_lawOf post 14 380 () p0 p1 p2 := by
  refine And.intro (by omega) (And.intro (by omega) (Exists.intro 13 (Exists.intro 362 (And.intro (by omega) (And.intro (by omega) (pm_init ?_))))))
  refine pm_feed (s := 0) (x := 10) (by omega) (by omega) (fun z => absurd z (by omega)) (fun z => absurd z (by omega)) (fun oc a3 a4 => ?_)
  refine pm_c1 rfl (fun oc a3 a4 => ?_)
  refine pm_feed (s := 1) (x := 0) (by omega) (by omega) (fun _ => rfl) (fun z => absurd z (by omega)) (fun oc a3 a4 => ?_)
  refine pm_feed (s := 2) (x := 1) (by omega) (by omega) (fun _ => rfl) (fun _ => rfl) (fun oc a3 a4 => ?_)
  refine pm_feed3 (T := 1) (x := 2) (by omega) (by omega) rfl rfl rfl (fun a2 a3 a4 _ => br_t rfl (br_t (by decide) (br_t rfl ?_)))
  exact pm_c3 (T := 1) (by omega) rfl rfl rfl (fun a2 a3 a4 _ => br_f (by decide) (pm_loop rfl rfl rfl H))
theorem pm_cell {post : Int32 → Prop} {L k : Nat} {xs : Nat → Int32} (hL : L ≤ 3) (hk : k < 3) (H : ∀ r, post r) : wpL_cellAt post L xs () (nI k) :=
  pk_le L k (fun _ => H 0) (fun z => And.intro (pk_in k L z) (H _))
theorem i_vc (xs : Nat → Int32) (L : Nat) (hL : L ≤ 3) : wpL_law (fun r => r = 1) L xs :=
  pm_cell (k := 0) hL (by omega) (fun r0 => pm_cell (k := 1) hL (by omega) (fun r1 => pm_cell (k := 2) hL (by omega) (fun r2 => Exists.intro 14 (Exists.intro 380 (And.intro (by omega) (And.intro (by omega) (pm_lawOf rfl)))))))
end
