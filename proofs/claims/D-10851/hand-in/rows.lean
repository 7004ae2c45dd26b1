section
/-! Int32 by its bits (rows out of the kit's BITS.to-paste) -/
def jq_bt (x : Int32) (i : Nat) : Bool := x.toBitVec.getLsbD i
theorem jq_bext {x y : Int32} (h : ∀ i, i < 32 → jq_bt x i = jq_bt y i) : x = y := Int32.toBitVec_inj.mp (BitVec.eq_of_getLsbD_eq (fun i hi => h i hi))
theorem jq_bor (x y : Int32) (i : Nat) : jq_bt (x ||| y) i = (jq_bt x i || jq_bt y i) := by unfold jq_bt; rw [Int32.toBitVec_or, BitVec.getLsbD_or]
theorem jq_band (x y : Int32) (i : Nat) : jq_bt (x &&& y) i = (jq_bt x i && jq_bt y i) := by unfold jq_bt; rw [Int32.toBitVec_and, BitVec.getLsbD_and]
theorem jq_b0 (i : Nat) : jq_bt 0 i = false := BitVec.getLsbD_zero
theorem jq_sl : ∀ n, n < 32 → ((nI n &&& 31).toBitVec.smod 32).toNat = n := by decide +kernel
theorem jq_bsshr (n : Nat) (hn : n < 32) (x : Int32) {i : Nat} (hi : i < 32) : jq_bt (x >>> (nI n &&& 31)) i = if n + i < 32 then jq_bt x (n + i) else jq_bt x 31 := by
  unfold jq_bt
  rw [Int32.toBitVec_shiftRight]
  show (x.toBitVec.sshiftRight ((nI n &&& 31).toBitVec.smod 32).toNat).getLsbD i = _
  rw [jq_sl n hn, BitVec.getLsbD_sshiftRight, BitVec.msb_eq_getLsbD_last]
  simp [hi]
/-! one bit of the mask of used nets -/
def jq_bit (x : Int32) (v : Nat) : Prop := ¬ ((x >>> (nI v &&& 31)) &&& 1) = 0
theorem jq_one : ∀ i, i < 32 → jq_bt 1 i = decide (i = 0) := by decide +kernel
theorem jq_bit_iff (x : Int32) {v : Nat} (hv : v < 32) : jq_bit x v ↔ jq_bt x v = true := by
  unfold jq_bit
  constructor
  · intro h
    cases hb : jq_bt x v with
    | true => rfl
    | false =>
      refine absurd (jq_bext (fun i hi => ?_)) h
      rw [jq_band, jq_b0, jq_one i hi]
      by_cases e : i = 0
      · rw [e, jq_bsshr v hv x (by omega), if_pos (by omega), Nat.add_zero, hb]
        rfl
      · rw [decide_eq_false e, Bool.and_false]
  · intro h e
    have t : jq_bt ((x >>> (nI v &&& 31)) &&& 1) 0 = false := by rw [e, jq_b0]
    rw [jq_band, jq_bsshr v hv x (by omega), if_pos (by omega), Nat.add_zero, h] at t
    exact absurd t (by decide)
theorem jq_sh1 : ∀ v, v < 6 → ∀ w, w < 6 → jq_bt ((1 : Int32) <<< (nI v &&& 31)) w = decide (w = v) := by decide +kernel
theorem jq_sh2 : ∀ v, v < 6 → ∀ w, w < 6 → jq_bt (((1 : Int32) <<< (nI v &&& 31)) ^^^ (-1)) w = !decide (w = v) := by decide +kernel
theorem jq_bit_clr {x : Int32} {v w : Nat} (hv : v < 6) (hw : w < 6) (n : w ≠ v) (h : jq_bit x w) : jq_bit (x &&& (((1 : Int32) <<< (nI v &&& 31)) ^^^ (-1))) w := by
  rw [jq_bit_iff _ (by omega)] at h ⊢
  rw [jq_band, h, jq_sh2 v hv w hw, decide_eq_false n]
  rfl
theorem jq_bit_old {x : Int32} {v w : Nat} (hw : w < 6) (h : jq_bit x w) : jq_bit (x ||| ((1 : Int32) <<< (nI v &&& 31))) w := by
  rw [jq_bit_iff _ (by omega)] at h ⊢
  rw [jq_bor, h, Bool.true_or]
theorem jq_bit_new {x : Int32} {v : Nat} (hv : v < 6) : jq_bit (x ||| ((1 : Int32) <<< (nI v &&& 31))) v := by
  rw [jq_bit_iff _ (by omega), jq_bor, jq_sh1 v hv v hv, decide_eq_true rfl, Bool.or_true]
theorem jq_bit_low : ∀ i, i < 6 → ∀ j, j < 6 → (((nI (2 ^ i - 1) >>> (nI j &&& 31)) &&& 1) = 0 ↔ i ≤ j) := by decide +kernel
theorem jq_low_or : ∀ i, i < 6 → nI (2 ^ i - 1) ||| ((1 : Int32) <<< (nI i &&& 31)) = nI (2 ^ (i + 1) - 1) := by decide +kernel
/-! places -/
theorem jq_ix7 (c d : Nat) : nI c * 7 + nI d = nI (c * 7 + d) := by
  rw [show (7 : Int32) = nI 7 from rfl, pk_mul, nI_add]
theorem jq_ix6 (c d : Nat) : nI c * 6 + nI d = nI (c * 6 + d) := by
  rw [show (6 : Int32) = nI 6 from rfl, pk_mul, nI_add]
theorem jq_nb : ∀ n, n < 8 → (nI n).toInt8.toInt32 = nI n := by decide +kernel
theorem jq_neg {n : Nat} (h : n < 2 ^ 31) : ¬ nI n = -1 := by
  intro e
  have := nI_pos h
  rw [e] at this
  exact this (by decide)
theorem jq_01 : ¬ (0 : Int32) = 1 := by decide
theorem jq_10 : ¬ (1 : Int32) = 0 := by decide
theorem jq_isC {post : Int32 → Prop} {u : St0} {x : Int32} (h0 : ¬ (x = 0 ∨ x = 1) → post 0) (h1 : x = 0 ∨ x = 1 → post 1) : wpX_isCircuit post u x :=
  br_c (fun h => h1 (Or.inl h)) (fun h => br_c (fun h' => h1 (Or.inr h')) (fun h' => h0 (fun z => z.elim h h')))
theorem jq_c2 {c : Nat} (hc : c < 2) : nI c = 0 ∨ nI c = 1 := by
  have : c = 0 ∨ c = 1 := by omega
  rcases this with rfl | rfl
  · exact Or.inl rfl
  · exact Or.inr rfl
/-- x is one of nI 0 .. nI (n-1) -/
def jq_N (n : Nat) (x : Int32) : Prop := ∃ j : Nat, j < n ∧ x = nI j
theorem jq_isN {post : Int32 → Prop} {u : St0} {x : Int32} (h0 : ¬ jq_N 6 x → post 0) (h1 : jq_N 6 x → post 1) : wpX_isNet post u x := by
  rcases pk_ix x (n := 6) (by decide) with h | h | ⟨j, hj, e⟩
  · refine br_t h (h0 (fun ⟨j, hj, e⟩ => ?_))
    rw [e] at h
    exact nI_pos (by omega) h
  · have hn : ¬ jq_N 6 x := fun ⟨j, hj, e⟩ => by
      rw [e] at h
      exact nI_ge hj (by decide) h
    exact br_c (fun _ => h0 hn) (fun _ => br_t h (h0 hn))
  · have h1' := h1 ⟨j, hj, e⟩
    subst e
    exact br_f (nI_pos (by omega)) (br_f (nI_ge (b := 6) hj (by decide)) h1')
/-! has: a circuit holds no device, or device 0 alone -/
theorem jq_bit0 : ∀ d, d < 7 → ((0 : Int32) >>> (nI d &&& 31)) &&& 1 = 0 := by decide +kernel
theorem jq_bit1 : ∀ d, d < 7 → 0 < d → ((1 : Int32) >>> (nI d &&& 31)) &&& 1 = 0 := by decide +kernel
theorem jq_bit10 : ¬ ((1 : Int32) >>> (nI 0 &&& 31)) &&& 1 = 0 := by decide
theorem jq_has {q1 q2 q3 q4 q5 : Int32} {a1 a2 a3 a4 a5 a6 a7 a8 a9 a10 a11 : Nat → Int32} {post : Int32 → Prop} {x y : Int32} (c d : Nat) (hx : x = nI c) (hy : y = nI d) (hc : c < 2) (hd : d < 7) (hP : a1 c = 0 ∨ a1 c = 1)
    (h0 : ¬ (a1 c = 1 ∧ d = 0) → post 0) (h1 : a1 c = 1 ∧ d = 0 → post 1) : wpX_has post (q1, q2, q3, q4, q5, a1, a2, a3, a4, a5, a6, a7, a8, a9, a10, a11) x y := by
  subst hx
  subst hy
  unfold wpX_has
  refine jq_isC (fun z => absurd (jq_c2 hc) z) (fun _ => br_f jq_10 (br_f (nI_pos (by omega)) (br_f (nI_ge (b := 7) hd (by decide)) ⟨pk_in c 2 hc, ?_⟩)))
  rw [nI_clamp (show c < 2 ^ 31 by omega)]
  rcases hP with h | h
  · rw [h]
    exact br_t (jq_bit0 d hd) (h0 (fun z => jq_01 (h.symm.trans z.1)))
  · by_cases hd0 : d = 0
    · subst hd0
      rw [h]
      exact br_f jq_bit10 (h1 ⟨h, rfl⟩)
    · rw [h]
      exact br_t (jq_bit1 d hd (by omega)) (h0 (fun z => hd0 z.2))
end
section
/-- circuit c's device 0 is there, with this type, gate, lesser end and greater end -/
def jq_c5 (a1 a2 a3 a4 a5 : Nat → Int32) (c : Nat) (t g lo hi : Int32) : Prop := a1 c = 1 ∧ a2 (c * 7) = t ∧ a4 (c * 7) = lo ∧ a5 (c * 7) = hi ∧ (t = 2 ∨ a3 (c * 7) = g)
/-- the same, the ends in any order -/
def jq_cd (a1 a2 a3 a4 a5 : Nat → Int32) (c : Nat) (t g x y : Int32) : Prop := jq_c5 a1 a2 a3 a4 a5 c t g (if y ≤ x then y else x) (if y ≤ x then x else y)
section
variable {q1 q2 q3 q4 q5 : Int32} {a1 a2 a3 a4 a5 a6 a7 a8 a9 a10 a11 : Nat → Int32} {post : Int32 → Prop}
theorem jq_cd38t {c : Nat} {t g lo hi : Int32} (hc : c < 2) (hP : a1 c = 0 ∨ a1 c = 1) (v : Int32) (hp : post v) :
    ∀ k d : Nat, d + k = 7 → (a1 c = 1 → 0 < d) → wX_countDevices_38 post (nI c) t g lo hi q1 q2 q3 q4 q5 a1 a2 a3 a4 a5 a6 a7 a8 a9 a10 a11 (k + 1) v (nI d) := by
  intro k
  induction k with
  | zero =>
    intro d hd _
    exact pk_le 7 d (fun _ => hp) (fun z => absurd z (by omega))
  | succ k ih =>
    intro d hd h0
    exact pk_le 7 d (fun z => absurd z (by omega)) (fun _ => nm_e (jq_has c d rfl rfl hc (by omega) hP
      (fun _ => br_t rfl (br_t rfl (nm_r (Int32.add_zero v) (nm_r (nI_1 d) (ih (d + 1) (by omega) (fun _ => by omega))))))
      (fun z => absurd (h0 z.1) (by omega))))
theorem jq_cd38 {c : Nat} {t g lo hi : Int32} (hc : c < 2) (hP : a1 c = 0 ∨ a1 c = 1) (h1 : jq_c5 a1 a2 a3 a4 a5 c t g lo hi → post 1) (h0 : ¬ jq_c5 a1 a2 a3 a4 a5 c t g lo hi → post 0) :
    ∃ n, wX_countDevices_38 post (nI c) t g lo hi q1 q2 q3 q4 q5 a1 a2 a3 a4 a5 a6 a7 a8 a9 a10 a11 n 0 0 := by
  rcases hP with h | h
  · exact ⟨8, jq_cd38t hc (Or.inl h) 0 (h0 (fun z => jq_01 (h.symm.trans z.1))) 7 0 rfl (fun z => absurd (h.symm.trans z) jq_01)⟩
  · have hcl : (nI (c * 7)).toNatClampNeg = c * 7 := nI_clamp (by omega)
    have tl : ∀ v, post v → wX_countDevices_38 post (nI c) t g lo hi q1 q2 q3 q4 q5 a1 a2 a3 a4 a5 a6 a7 a8 a9 a10 a11 7 v (nI 1) := fun v hv => jq_cd38t hc (Or.inr h) v hv 6 1 rfl (fun _ => by omega)
    have no : ¬ jq_c5 a1 a2 a3 a4 a5 c t g lo hi → wX_countDevices_103 post (wX_countDevices_38 post (nI c) t g lo hi q1 q2 q3 q4 q5 a1 a2 a3 a4 a5 a6 a7 a8 a9 a10 a11 7) (nI c) t g lo hi 0 0 (nI (c * 7)) q1 q2 q3 q4 q5 a1 a2 a3 a4 a5 a6 a7 a8 a9 a10 a11 :=
      fun z => br_t rfl (nm_r (Int32.add_zero 0) (nm_r (nI_1 0) (tl 0 (h0 z))))
    have ya : jq_c5 a1 a2 a3 a4 a5 c t g lo hi → ∀ x8 : Int32, x8 = 0 + 1 → ∀ x9 : Int32, x9 = 0 + 1 → wX_countDevices_38 post (nI c) t g lo hi q1 q2 q3 q4 q5 a1 a2 a3 a4 a5 a6 a7 a8 a9 a10 a11 7 x8 x9 :=
      fun z => nm_r (show (0 : Int32) + 1 = 1 by decide) (nm_r (nI_1 0) (tl 1 (h1 z)))
    refine ⟨8, br_f (show ¬ (7 : Int32) ≤ 0 by decide) (nm_r (e' := nI (c * 7)) (jq_ix7 c 0) (jq_has c 0 rfl rfl hc (by omega) (Or.inr h) (fun z => absurd ⟨h, rfl⟩ z) (fun _ => br_f jq_10 ⟨pk_in (c * 7) 14 (by omega), ?_⟩)))⟩
    rw [hcl]
    refine br_c (fun e2 => ⟨pk_in (c * 7) 14 (by omega), br_c (fun e4 => ⟨pk_in (c * 7) 14 (by omega), br_c (fun e5 => br_f jq_10 (br_c (fun et => ya ⟨h, e2, e4, e5, Or.inl et⟩) (fun nt => ⟨pk_in (c * 7) 14 (by omega), ?_⟩))) (fun n5 => no (fun z => n5 z.2.2.2.1))⟩) (fun n4 => no (fun z => n4 z.2.2.1))⟩) (fun n2 => no (fun z => n2 z.2.1))
    rw [hcl]
    exact br_c (fun e3 => ya ⟨h, e2, e4, e5, Or.inr e3⟩) (fun n3 => nm_r (Int32.add_zero 0) (nm_r (nI_1 0) (tl 0 (h0 (fun z => z.2.2.2.2.elim nt n3)))))
theorem jq_count {p0 t g' x' y' : Int32} (c : Nat) (g x y : Int32) (hp : p0 = nI c) (hg : g' = g) (hx : x' = x) (hy : y' = y) (hc : c < 2) (hP : a1 c = 0 ∨ a1 c = 1)
    (h1 : jq_cd a1 a2 a3 a4 a5 c t g x y → post 1) (h0 : ¬ jq_cd a1 a2 a3 a4 a5 c t g x y → post 0) : wpX_countDevices post (q1, q2, q3, q4, q5, a1, a2, a3, a4, a5, a6, a7, a8, a9, a10, a11) p0 t g' x' y' := by
  subst hp
  subst hg
  subst hx
  subst hy
  unfold jq_cd at h1 h0
  refine br_c (fun e => ?_) (fun e => ?_)
  · rw [if_pos e, if_pos e] at h1 h0
    exact br_t e (jq_cd38 hc hP h1 h0)
  · rw [if_neg e, if_neg e] at h1 h0
    exact br_f e (jq_cd38 hc hP h1 h0)
end
/-- what agreesAt(t, x, p) asks, D0 and D1 the two circuits' devices, ch the assignment -/
def jq_A1 (D0 D1 : Int32 → Int32 → Int32 → Int32 → Prop) (ch : Nat → Int32) (t p x g : Nat) : Prop := D0 (nI t) (nI g) (nI x) (nI p) ↔ D1 (nI t) (ch g) (ch x) (ch p)
def jq_A2 (D0 D1 : Int32 → Int32 → Int32 → Int32 → Prop) (ch : Nat → Int32) (t p x y : Nat) : Prop := D0 (nI t) (nI p) (nI x) (nI y) ↔ D1 (nI t) (ch p) (ch x) (ch y)
def jq_A (D0 D1 : Int32 → Int32 → Int32 → Int32 → Prop) (ch : Nat → Int32) (t p x : Nat) : Prop :=
  (∀ g, g < (if t = 2 then 0 else p) + 1 → jq_A1 D0 D1 ch t p x g) ∧ (t ≠ 2 → ∀ y, y < p → jq_A2 D0 D1 ch t p x y)
def jq_Ag (D0 D1 : Int32 → Int32 → Int32 → Int32 → Prop) (ch : Nat → Int32) (p : Nat) : Prop := ∀ t, t < 3 → ∀ x, x < p + 1 → jq_A D0 D1 ch t p x
section
variable {q3 q4 q5 : Int32} {a1 a2 a3 a4 a5 a6 a7 a8 a9 a10 a11 : Nat → Int32} {post : Int32 → Prop}
/-- the two counts of one comparison -/
theorem jq_two {t : Int32} {u0 u1 u2 w0 w1 w2 w0' w1' w2' : Int32} {A B : Prop} {k1 k2 k3 : Prop} (hP : ∀ c, c < 2 → a1 c = 0 ∨ a1 c = 1) (hk1 : k1) (hk2 : k2) (hk3 : k3) (e0 : w0' = w0) (e1 : w1' = w1) (e2 : w2' = w2)
    (hA : (jq_cd a1 a2 a3 a4 a5 0 t u0 u1 u2 ↔ jq_cd a1 a2 a3 a4 a5 1 t w0 w1 w2) → A) (hB : ¬ (jq_cd a1 a2 a3 a4 a5 0 t u0 u1 u2 ↔ jq_cd a1 a2 a3 a4 a5 1 t w0 w1 w2) → B) :
    wpX_countDevices (fun r => k1 ∧ (k2 ∧ (k3 ∧ (wpX_countDevices (fun r' => (r = r' → A) ∧ (¬ r = r' → B)) (0, 1, q3, q4, q5, a1, a2, a3, a4, a5, a6, a7, a8, a9, a10, a11) 1 t w0' w1' w2')))) (0, 1, q3, q4, q5, a1, a2, a3, a4, a5, a6, a7, a8, a9, a10, a11) 0 t u0 u1 u2 := by
  refine jq_count 0 u0 u1 u2 rfl rfl rfl rfl (by omega) (hP 0 (by omega)) (fun z => ⟨hk1, hk2, hk3, ?_⟩) (fun z => ⟨hk1, hk2, hk3, ?_⟩)
  · exact jq_count 1 w0 w1 w2 rfl e0 e1 e2 (by omega) (hP 1 (by omega)) (fun z' => br_t rfl (hA ⟨fun _ => z', fun _ => z⟩)) (fun z' => br_f jq_10 (hB (fun e => z' (e.mp z))))
  · exact jq_count 1 w0 w1 w2 rfl e0 e1 e2 (by omega) (hP 1 (by omega)) (fun z' => br_f jq_01 (hB (fun e => z (e.mpr z')))) (fun z' => br_t rfl (hA ⟨fun e => absurd e z, fun e => absurd e z'⟩))
theorem jq_at81 {t x p : Nat} (hP : ∀ c, c < 2 → a1 c = 0 ∨ a1 c = 1) (ht : t < 3) (hx : x ≤ p) (hp : p ≤ 5)
    (h1 : (t ≠ 2 → ∀ y, y < p → jq_A2 (jq_cd a1 a2 a3 a4 a5 0) (jq_cd a1 a2 a3 a4 a5 1) a9 t p x y) → post 1) (h0 : ¬ (t ≠ 2 → ∀ y, y < p → jq_A2 (jq_cd a1 a2 a3 a4 a5 0) (jq_cd a1 a2 a3 a4 a5 1) a9 t p x y) → post 0) :
    ∃ n, wX_agreesAt_81 post (nI t) (nI x) (nI p) 0 1 q3 q4 q5 a1 a2 a3 a4 a5 a6 a7 a8 a9 a10 a11 n 0 :=
  pk_loop (σ := Unit) (fun n i _ => wX_agreesAt_81 post (nI t) (nI x) (nI p) 0 1 q3 q4 q5 a1 a2 a3 a4 a5 a6 a7 a8 a9 a10 a11 n (nI i)) (fun i _ => ∀ y, y < i → jq_A2 (jq_cd a1 a2 a3 a4 a5 0) (jq_cd a1 a2 a3 a4 a5 1) a9 t p x y) p 0 () (by omega) (fun y hy => absurd hy (by omega))
    (fun n _ h => pk_le p p (fun _ => h1 (fun _ => h)) (fun z => absurd z (by omega)))
    (fun n i _ hi h hw => pk_le p i (fun z => absurd z (by omega)) (fun _ => pk_eq t 2 (fun z => h1 (fun z' => absurd z z')) (fun z =>
      jq_two hP (pk_in p 8 (by omega)) (pk_in x 8 (by omega)) (pk_in i 8 (by omega)) (w0 := a9 p) (w1 := a9 x) (w2 := a9 i) (congrArg a9 (nI_clamp (by omega))) (congrArg a9 (nI_clamp (by omega))) (congrArg a9 (nI_clamp (by omega)))
        (fun e => nm_r (nI_1 i) (hw () (lt_s h e))) (fun e => h0 (fun g => e (g z i hi))))))
theorem jq_at15 {t x p : Nat} {m : Nat} (hP : ∀ c, c < 2 → a1 c = 0 ∨ a1 c = 1) (ht : t < 3) (hx : x ≤ p) (hp : p ≤ 5) (hm : m = if t = 2 then 0 else p)
    (h1 : jq_A (jq_cd a1 a2 a3 a4 a5 0) (jq_cd a1 a2 a3 a4 a5 1) a9 t p x → post 1) (h0 : ¬ jq_A (jq_cd a1 a2 a3 a4 a5 0) (jq_cd a1 a2 a3 a4 a5 1) a9 t p x → post 0) :
    ∃ n, wX_agreesAt_15 post (nI t) (nI x) (nI p) (nI m) 0 1 q3 q4 q5 a1 a2 a3 a4 a5 a6 a7 a8 a9 a10 a11 n 0 := by
  have hm5 : m ≤ 5 := by
    rw [hm]
    split
    · omega
    · exact hp
  unfold jq_A at h1 h0
  rw [← hm] at h1 h0
  exact pk_loop (σ := Unit) (fun n i _ => wX_agreesAt_15 post (nI t) (nI x) (nI p) (nI m) 0 1 q3 q4 q5 a1 a2 a3 a4 a5 a6 a7 a8 a9 a10 a11 n (nI i)) (fun i _ => ∀ g, g < i → jq_A1 (jq_cd a1 a2 a3 a4 a5 0) (jq_cd a1 a2 a3 a4 a5 1) a9 t p x g) (m + 1) 0 () (by omega) (fun y hy => absurd hy (by omega))
    (fun n _ h => pk_lt m (m + 1) (fun _ => jq_at81 hP ht hx hp (fun z => h1 ⟨h, z⟩) (fun z => h0 (fun g => z g.2))) (fun z => absurd z (by omega)))
    (fun n i _ hi h hw => pk_lt m i (fun z => absurd z (by omega)) (fun _ =>
      jq_two hP (pk_in i 8 (by omega)) (pk_in x 8 (by omega)) (pk_in p 8 (by omega)) (w0 := a9 i) (w1 := a9 x) (w2 := a9 p) (congrArg a9 (nI_clamp (by omega))) (congrArg a9 (nI_clamp (by omega))) (congrArg a9 (nI_clamp (by omega)))
        (fun e => nm_r (nI_1 i) (hw () (lt_s h e))) (fun e => h0 (fun g => e (g.1 i hi)))))
theorem jq_at {t x p : Nat} (hP : ∀ c, c < 2 → a1 c = 0 ∨ a1 c = 1) (ht : t < 3) (hx : x ≤ p) (hp : p ≤ 5)
    (h1 : jq_A (jq_cd a1 a2 a3 a4 a5 0) (jq_cd a1 a2 a3 a4 a5 1) a9 t p x → post 1) (h0 : ¬ jq_A (jq_cd a1 a2 a3 a4 a5 0) (jq_cd a1 a2 a3 a4 a5 1) a9 t p x → post 0) :
    wpX_agreesAt post (0, 1, q3, q4, q5, a1, a2, a3, a4, a5, a6, a7, a8, a9, a10, a11) (nI t) (nI x) (nI p) :=
  pk_eq t 2 (fun z => jq_at15 (m := 0) hP ht hx hp (by rw [if_pos z]) h1 h0) (fun z => jq_at15 (m := p) hP ht hx hp (by rw [if_neg z]) h1 h0)
theorem jq_ag9 {J : Int32 → Prop} {t p : Nat} (hP : ∀ c, c < 2 → a1 c = 0 ∨ a1 c = 1) (ht : t < 3) (hp : p ≤ 5)
    (hJ : (∀ x, x < p + 1 → jq_A (jq_cd a1 a2 a3 a4 a5 0) (jq_cd a1 a2 a3 a4 a5 1) a9 t p x) → J (nI (t + 1)))
    (h0 : ¬ (∀ x, x < p + 1 → jq_A (jq_cd a1 a2 a3 a4 a5 0) (jq_cd a1 a2 a3 a4 a5 1) a9 t p x) → post 0) :
    ∃ n, wX_agrees_9 post J (nI p) (nI t) 0 1 q3 q4 q5 a1 a2 a3 a4 a5 a6 a7 a8 a9 a10 a11 n 0 :=
  pk_loop (σ := Unit) (fun n i _ => wX_agrees_9 post J (nI p) (nI t) 0 1 q3 q4 q5 a1 a2 a3 a4 a5 a6 a7 a8 a9 a10 a11 n (nI i)) (fun i _ => ∀ x, x < i → jq_A (jq_cd a1 a2 a3 a4 a5 0) (jq_cd a1 a2 a3 a4 a5 1) a9 t p x) (p + 1) 0 () (by omega) (fun y hy => absurd hy (by omega))
    (fun n _ h => pk_lt p (p + 1) (fun _ => nm_r (nI_1 t) (hJ h)) (fun z => absurd z (by omega)))
    (fun n i _ hi h hw => pk_lt p i (fun z => absurd z (by omega)) (fun _ =>
      jq_at hP ht (by omega) hp (fun e => br_f jq_10 (nm_r (nI_1 i) (hw () (lt_s h e)))) (fun e => br_t rfl (h0 (fun g => e (g i hi))))))
theorem jq_agrees {p : Nat} (hP : ∀ c, c < 2 → a1 c = 0 ∨ a1 c = 1) (hp : p ≤ 5)
    (h1 : jq_Ag (jq_cd a1 a2 a3 a4 a5 0) (jq_cd a1 a2 a3 a4 a5 1) a9 p → post 1) (h0 : ¬ jq_Ag (jq_cd a1 a2 a3 a4 a5 0) (jq_cd a1 a2 a3 a4 a5 1) a9 p → post 0) :
    wpX_agrees post (0, 1, q3, q4, q5, a1, a2, a3, a4, a5, a6, a7, a8, a9, a10, a11) (nI p) :=
  pk_loop (σ := Unit) (fun n i _ => wX_agrees_2 post (nI p) 0 1 q3 q4 q5 a1 a2 a3 a4 a5 a6 a7 a8 a9 a10 a11 n (nI i)) (fun i _ => ∀ t, t < i → ∀ x, x < p + 1 → jq_A (jq_cd a1 a2 a3 a4 a5 0) (jq_cd a1 a2 a3 a4 a5 1) a9 t p x) 3 0 () (by omega) (fun y hy => absurd hy (by omega))
    (fun n _ h => pk_le 3 3 (fun _ => h1 h) (fun z => absurd z (by omega)))
    (fun n i _ hi h hw => pk_le 3 i (fun z => absurd z (by omega)) (fun _ => jq_ag9 hP hi hp (fun e => hw () (lt_s h e)) (fun e => h0 (fun g => e (g i hi)))))
end
end
section
/-- net j of circuit 1 may stand for net l of circuit 0 -/
def jq_ok (used : Int32) (a6 a7 : Nat → Int32) (l j : Nat) : Prop := ((used >>> (nI j &&& 31)) &&& 1) = 0 ∧ a6 l = a6 (6 + j) ∧ a7 l = a7 (6 + j)
section
variable {q3 q4 q5 : Int32} {a1 a2 a3 a4 a5 a6 a7 a8 a9 a10 a11 : Nat → Int32}
theorem jq_next {post : Int32 → Prop} {used from0 : Int32} {l f : Nat} (hl : l ≤ 5) (hf : f ≤ 6) (ef : from0 = nI f)
    (h1 : ∀ j, j < 6 → f ≤ j → jq_ok used a6 a7 l j → (∀ i, f ≤ i → i < j → ¬ jq_ok used a6 a7 l i) → post (nI j))
    (h0 : (∀ i, f ≤ i → i < 6 → ¬ jq_ok used a6 a7 l i) → post (-1)) :
    wpX_nextNet post (0, 1, -1, q4, q5, a1, a2, a3, a4, a5, a6, a7, a8, a9, a10, a11) (nI l) from0 used := by
  subst ef
  refine nm_r (e' := nI l) ?_ ?_
  · show (0 : Int32) * 6 + nI l = nI l
    rw [show (0 : Int32) * 6 = 0 by decide, Int32.zero_add]
  · refine pk_loop (σ := Unit) (fun n i _ => wX_nextNet_14 post (nI l) used (nI l) 0 1 (-1) q4 q5 a1 a2 a3 a4 a5 a6 a7 a8 a9 a10 a11 n (nI i)) (fun i _ => f ≤ i ∧ ∀ j, f ≤ j → j < i → ¬ jq_ok used a6 a7 l j) 6 f () hf ⟨Nat.le_refl f, fun j h h' => absurd h' (by omega)⟩
      (fun n _ h => pk_le 6 6 (fun _ => h0 h.2) (fun z => absurd z (by omega))) ?_
    intro n i _ hi h hw
    have hlc : (nI l).toNatClampNeg = l := nI_clamp (by omega)
    have hic : (nI (6 + i)).toNatClampNeg = 6 + i := nI_clamp (by omega)
    have go : ¬ jq_ok used a6 a7 l i → ∀ x : Int32, x = nI i + 1 → wX_nextNet_14 post (nI l) used (nI l) 0 1 (-1) q4 q5 a1 a2 a3 a4 a5 a6 a7 a8 a9 a10 a11 n x :=
      fun e => nm_r (nI_1 i) (hw () ⟨Nat.le_succ_of_le h.1, fun j h2 h3 => by
        by_cases ej : j = i
        · rw [ej]; exact e
        · exact h.2 j h2 (by omega)⟩)
    refine pk_le 6 i (fun z => absurd z (by omega)) (fun _ => nm_r (e' := nI (6 + i)) (jq_ix6 1 i) (br_c (fun eb => br_f (jq_neg (by omega)) (br_f jq_10 ⟨pk_in l 12 (by omega), pk_in (6 + i) 12 (by omega), ?_⟩)) (fun nb => br_t rfl (go (fun g => nb g.1)))))
    rw [hlc, hic]
    refine br_c (fun e6 => ⟨pk_in l 12 (by omega), pk_in (6 + i) 12 (by omega), ?_⟩) (fun n6 => go (fun g => n6 g.2.1))
    exact br_c (fun e7 => h1 i hi h.1 ⟨eb, e6, e7⟩ h.2) (fun n7 => go (fun g => n7 g.2.2))
theorem jq_note27 {post : St2 → Prop} {J : Int32 → (Nat → Int32) → (Nat → Int32) → (Nat → Int32) → (Nat → Int32) → (Nat → Int32) → (Nat → Int32) → (Nat → Int32) → (Nat → Int32) → (Nat → Int32) → (Nat → Int32) → (Nat → Int32) → Prop} {q1 q2 : Int32} {i : Nat} (hi : i < 6) (H : ∀ b, J (nI (i + 1)) a1 a2 a3 a4 a5 a6 a7 a8 a9 a10 b) : wX_note_27 post J (nI i) q1 q2 q3 q4 q5 a1 a2 a3 a4 a5 a6 a7 a8 a9 a10 a11 :=
  ⟨pk_in i 6 hi, pk_in i 8 (by omega), pk_in i 6 hi, nm_e (nm_r (nI_1 i) (H _))⟩
theorem jq_note {post : St2 → Prop} {q1 q2 : Int32} (H : ∀ b10 b11, post (q1, q2, q3, q4, q5 + 1, a1, a2, a3, a4, a5, a6, a7, a8, a9, b10, b11)) : wpX_note post (q1, q2, q3, q4, q5, a1, a2, a3, a4, a5, a6, a7, a8, a9, a10, a11) :=
  pk_loop (σ := (Nat → Int32) × (Nat → Int32)) (fun n i s => wX_note_2 post q1 q2 q3 q4 q5 n (nI i) a1 a2 a3 a4 a5 a6 a7 a8 a9 s.1 s.2) (fun _ _ => True) 6 0 (a10, a11) (by omega) trivial
    (fun n s _ => pk_le 6 6 (fun _ => nm_e (H s.1 s.2)) (fun z => absurd z (by omega)))
    (fun n i s hi _ hw => pk_le 6 i (fun z => absurd z (by omega)) (fun _ => br_c (fun _ => ⟨pk_in i 8 (by omega), pk_in i 6 hi, nm_e (jq_note27 hi (fun b => hw (_, b) trivial))⟩) (fun _ => jq_note27 hi (fun b => hw (s.1, b) trivial))))
end
end
section
def jq_mix (a b : Int32) : Int32 := ((((a * 31) + b) + 17) * 1000003) ^^^ (((((a * 31) + b) + 17).toUInt32 >>> ((13 : Int32).toUInt32 &&& Int32.toUInt32 31)).toInt32)
theorem jq_wmix {post : Int32 → Prop} {u : St0} {a b : Int32} (h : post (jq_mix a b)) : wpX_mix post u a b := nm_e h
/-- the mark of a net without name and devices behind r rounds -/
def jq_mk : Nat → Int32
  | 0 => jq_mix (-1) 5
  | r + 1 => jq_mix (jq_mk r) 1
/-- circuit c holds no device, or device 0 alone, whose cells are in range -/
def jq_D (a1 a2 a3 a4 a5 : Nat → Int32) (c : Nat) : Prop := a1 c = 0 ∨ (a1 c = 1 ∧ ∃ t g x y : Nat, t < 3 ∧ g < 6 ∧ x ≤ y ∧ y < 6 ∧ a2 (c * 7) = nI t ∧ a3 (c * 7) = nI g ∧ a4 (c * 7) = nI x ∧ a5 (c * 7) = nI y)
theorem jq_D_P {a1 a2 a3 a4 a5 : Nat → Int32} {c : Nat} (h : jq_D a1 a2 a3 a4 a5 c) : a1 c = 0 ∨ a1 c = 1 := h.elim Or.inl (fun z => Or.inr z.1)
section
variable {q1 q2 q3 q4 q5 : Int32} {a1 a2 a3 a4 a5 a6 a7 a8 a9 a10 a11 : Nat → Int32} {post : St2 → Prop}
theorem jq_spread68 {c : Nat} {t x4 x5 z0 : Int32} {g x y : Nat} (hc : c < 2) (hg : g < 6) (hx : x < 6) (hy : y < 6) (e3 : a3 (c * 7) = nI g) (e4 : a4 (c * 7) = nI x) (e5 : a5 (c * 7) = nI y) (H : ∀ b, post (q1, q2, q3, q4, q5, a1, a2, a3, a4, a5, a6, a7, b, a9, a10, a11)) :
    wX_spread_68 post (nI (c * 7)) t x4 x5 z0 q1 q2 q3 q4 q5 a1 a2 a3 a4 a5 a6 a7 a8 a9 a10 a11 := by
  have hcl : (nI (c * 7)).toNatClampNeg = c * 7 := nI_clamp (by omega)
  have v14 : vp_in (nI (c * 7)) 14 := pk_in (c * 7) 14 (by omega)
  have v3 : vp_in (a3 (nI (c * 7)).toNatClampNeg) 12 := by rw [hcl, e3]; exact pk_in g 12 (by omega)
  have v4 : vp_in (a4 (nI (c * 7)).toNatClampNeg) 12 := by rw [hcl, e4]; exact pk_in x 12 (by omega)
  have v5 : vp_in (a5 (nI (c * 7)).toNatClampNeg) 12 := by rw [hcl, e5]; exact pk_in y 12 (by omega)
  exact jq_wmix (jq_wmix ⟨v14, v4, jq_wmix ⟨v4, nm_e ⟨v14, v5, jq_wmix ⟨v5, nm_e (br_c (fun _ => H _) (fun _ => ⟨v14, v3, jq_wmix ⟨v3, nm_e (H _)⟩⟩))⟩⟩⟩⟩)
theorem jq_spread {p0 p1 : Int32} {c : Nat} (ep : p0 = nI c) (e1 : p1 = nI (c * 7)) (hc : c < 2) {g x y : Nat} (hg : g < 6) (hx : x < 6) (hy : y < 6) (e3 : a3 (c * 7) = nI g) (e4 : a4 (c * 7) = nI x) (e5 : a5 (c * 7) = nI y) (H : ∀ b, post (q1, q2, q3, q4, q5, a1, a2, a3, a4, a5, a6, a7, b, a9, a10, a11)) :
    wpX_spread post (q1, q2, q3, q4, q5, a1, a2, a3, a4, a5, a6, a7, a8, a9, a10, a11) p0 p1 := by
  subst ep
  subst e1
  have hcl : (nI (c * 7)).toNatClampNeg = c * 7 := nI_clamp (by omega)
  have v14 : vp_in (nI (c * 7)) 14 := pk_in (c * 7) 14 (by omega)
  have v3 : vp_in (nI c * 6 + a3 (nI (c * 7)).toNatClampNeg) 12 := by rw [hcl, e3, jq_ix6]; exact pk_in (c * 6 + g) 12 (by omega)
  have v4 : vp_in (nI c * 6 + a4 (nI (c * 7)).toNatClampNeg) 12 := by rw [hcl, e4, jq_ix6]; exact pk_in (c * 6 + x) 12 (by omega)
  have v5 : vp_in (nI c * 6 + a5 (nI (c * 7)).toNatClampNeg) 12 := by rw [hcl, e5, jq_ix6]; exact pk_in (c * 6 + y) 12 (by omega)
  exact ⟨v14, nm_e ⟨v14, v4, nm_e ⟨v14, v5, nm_e (br_c (fun _ => jq_spread68 hc hg hx hy e3 e4 e5 H) (fun _ => ⟨v14, v3, jq_spread68 hc hg hx hy e3 e4 e5 H⟩))⟩⟩⟩
/-- a7' is a7 outside circuit c's part -/
def jq_out (c : Nat) (f g : Nat → Int32) : Prop := ∀ j, (j < c * 6 ∨ c * 6 + 6 ≤ j) → g j = f j
theorem jq_out_u {c i : Nat} {f g : Nat → Int32} {v : Int32} (hi : i < 6) (h : jq_out c f g) : jq_out c f (upd g (c * 6 + i) v) := by
  intro j hj
  rw [pk_un (by omega)]
  exact h j hj
theorem jq_fill {c i : Nat} {F g : Nat → Int32} {v : Int32} (h : ∀ j, j < i → g (c + j) = F j) (hv : v = F i) : ∀ j, j < i + 1 → upd g (c + i) v (c + j) = F j := by
  intro j hj
  by_cases e : j = i
  · rw [e, pk_us, hv]
  · rw [pk_un (by omega)]
    exact h j (by omega)
theorem jq_fill0 {i : Nat} {F g : Nat → Int32} {v : Int32} (h : ∀ j, j < i → g j = F j) (hv : v = F i) : ∀ j, j < i + 1 → upd g i v j = F j := by
  intro j hj
  by_cases e : j = i
  · rw [e, pk_us, hv]
  · rw [pk_un (by omega)]
    exact h j (by omega)
variable {J : Int32 → Int32 → Int32 → Int32 → Int32 → Int32 → (Nat → Int32) → (Nat → Int32) → (Nat → Int32) → (Nat → Int32) → (Nat → Int32) → (Nat → Int32) → (Nat → Int32) → (Nat → Int32) → (Nat → Int32) → (Nat → Int32) → (Nat → Int32) → Prop}
theorem jq_m119 {c r : Nat} (hc : c < 2) (H : ∀ b7, jq_out c a7 b7 → (∀ j, j < 6 → b7 (c * 6 + j) = a8 j) → J (nI (r + 1)) q1 q2 q3 q4 q5 a1 a2 a3 a4 a5 a6 b7 a8 a9 a10 a11) :
    ∃ n, wX_mark_119 post J (nI c) (nI r) q1 q2 q3 q4 q5 n 0 a1 a2 a3 a4 a5 a6 a7 a8 a9 a10 a11 :=
  pk_loop (fun n i s => wX_mark_119 post J (nI c) (nI r) q1 q2 q3 q4 q5 n (nI i) a1 a2 a3 a4 a5 a6 s a8 a9 a10 a11) (fun i s => jq_out c a7 s ∧ ∀ j, j < i → s (c * 6 + j) = a8 j) 6 0 a7 (by omega) ⟨fun _ _ => rfl, fun j hj => absurd hj (by omega)⟩
    (fun n s h => pk_le 6 6 (fun _ => nm_r (nI_1 r) (H s h.1 h.2)) (fun z => absurd z (by omega)))
    (fun n i s hi h hw => pk_le 6 i (fun z => absurd z (by omega)) (fun _ => ⟨pk_in i 12 (by omega), pk_in (c * 6 + i) 12 (by omega) (jq_ix6 c i), nm_r (e' := upd s (c * 6 + i) (a8 i)) (by rw [jq_ix6, nI_clamp (by omega), nI_clamp (by omega)]) (nm_r (nI_1 i) (hw _ ⟨jq_out_u hi h.1, jq_fill h.2 rfl⟩))⟩))
theorem jq_m85 {c r : Nat} (hc : c < 2) (hD : jq_D a1 a2 a3 a4 a5 c) (H : ∀ b8, (a1 c = 0 → b8 = a8) → ∃ n, wX_mark_119 post J (nI c) (nI r) q1 q2 q3 q4 q5 n 0 a1 a2 a3 a4 a5 a6 a7 b8 a9 a10 a11) :
    ∃ n, wX_mark_85 post J (nI c) (nI r) n 0 q1 q2 q3 q4 q5 a1 a2 a3 a4 a5 a6 a7 a8 a9 a10 a11 := by
  refine pk_loop (fun n i s => wX_mark_85 post J (nI c) (nI r) n (nI i) q1 q2 q3 q4 q5 a1 a2 a3 a4 a5 a6 a7 s a9 a10 a11) (fun i s => a1 c = 0 → s = a8) 7 0 a8 (by omega) (fun _ => rfl)
    (fun n s h => pk_le 7 7 (fun _ => H s h) (fun z => absurd z (by omega))) ?_
  intro n i s hi h hw
  refine pk_le 7 i (fun z => absurd z (by omega)) (fun _ => jq_has c i rfl rfl hc hi (jq_D_P hD) (fun _ => br_t rfl (nm_r (nI_1 i) (hw s h))) (fun z => br_f jq_10 ?_))
  obtain ⟨z1, z2⟩ := z
  rcases hD with hD | ⟨_, t, g, x, y, ht, hg, hxy, hy, e2, e3, e4, e5⟩
  · exact absurd (hD.symm.trans z1) jq_01
  · subst z2
    exact jq_spread rfl (jq_ix7 c 0) hc hg (Nat.lt_of_le_of_lt hxy hy) hy e3 e4 e5 (fun b => nm_r (nI_1 0) (hw b (fun z => absurd (z.symm.trans z1) jq_01)))
theorem jq_m50 {c r : Nat} (hc : c < 2) (H : ∀ b8, (∀ j, j < 6 → b8 j = jq_mix (a7 (c * 6 + j)) 1) → ∃ n, wX_mark_85 post J (nI c) (nI r) n 0 q1 q2 q3 q4 q5 a1 a2 a3 a4 a5 a6 a7 b8 a9 a10 a11) :
    ∃ n, wX_mark_50 post J (nI c) (nI r) q1 q2 q3 q4 q5 n 0 a1 a2 a3 a4 a5 a6 a7 a8 a9 a10 a11 :=
  pk_loop (fun n i s => wX_mark_50 post J (nI c) (nI r) q1 q2 q3 q4 q5 n (nI i) a1 a2 a3 a4 a5 a6 a7 s a9 a10 a11) (fun i s => ∀ j, j < i → s j = jq_mix (a7 (c * 6 + j)) 1) 6 0 a8 (by omega) (fun j hj => absurd hj (by omega))
    (fun n s h => pk_le 6 6 (fun _ => H s h) (fun z => absurd z (by omega)))
    (fun n i s hi h hw => pk_le 6 i (fun z => absurd z (by omega)) (fun _ => ⟨pk_in (c * 6 + i) 12 (by omega) (jq_ix6 c i), jq_wmix ⟨pk_in i 12 (by omega), nm_r (e' := upd s i (jq_mix (a7 (c * 6 + i)) 1)) (by rw [jq_ix6, nI_clamp (by omega), nI_clamp (by omega)]) (nm_r (nI_1 i) (hw _ (jq_fill0 (F := fun j => jq_mix (a7 (c * 6 + j)) 1) h rfl)))⟩⟩))
/-- circuit c has no device and no name -/
def jq_E (a1 a6 : Nat → Int32) (c : Nat) : Prop := a1 c = 0 ∧ ∀ j, j < 6 → a6 (c * 6 + j) = -1
theorem jq_m42 {c : Nat} (hc : c < 2) (hD : jq_D a1 a2 a3 a4 a5 c) (h0 : jq_E a1 a6 c → ∀ j, j < 6 → a7 (c * 6 + j) = jq_mk 0)
    (H : ∀ b7 b8, jq_out c a7 b7 → (jq_E a1 a6 c → ∀ j, j < 6 → b7 (c * 6 + j) = jq_mk 6) → post (q1, q2, q3, q4, q5, a1, a2, a3, a4, a5, a6, b7, b8, a9, a10, a11)) :
    ∃ n, wX_mark_42 post (nI c) n 0 q1 q2 q3 q4 q5 a1 a2 a3 a4 a5 a6 a7 a8 a9 a10 a11 := by
  refine pk_loop (σ := (Nat → Int32) × (Nat → Int32)) (fun n i s => wX_mark_42 post (nI c) n (nI i) q1 q2 q3 q4 q5 a1 a2 a3 a4 a5 a6 s.1 s.2 a9 a10 a11) (fun i s => jq_out c a7 s.1 ∧ (jq_E a1 a6 c → ∀ j, j < 6 → s.1 (c * 6 + j) = jq_mk i)) 6 0 (a7, a8) (by omega) ⟨fun _ _ => rfl, h0⟩
    (fun n s h => pk_le 6 6 (fun _ => H s.1 s.2 h.1 h.2) (fun z => absurd z (by omega))) ?_
  intro n i s hi h hw
  refine pk_le 6 i (fun z => absurd z (by omega)) (fun _ => jq_m50 hc (fun b8 e8 => jq_m85 hc hD (fun b8' e8' => jq_m119 hc (fun b7 o7 e7 => ?_))))
  refine hw (b7, b8') ⟨fun j hj => (o7 j hj).trans (h.1 j hj), fun hE j hj => ?_⟩
  show b7 (c * 6 + j) = jq_mix (jq_mk i) 1
  rw [e7 j hj, e8' hE.1, e8 j hj, h.2 hE j hj]
theorem jq_mark {p0 : Int32} {c : Nat} (ep : p0 = nI c) (hc : c < 2) (hD : jq_D a1 a2 a3 a4 a5 c)
    (H : ∀ b7 b8, jq_out c a7 b7 → (jq_E a1 a6 c → ∀ j, j < 6 → b7 (c * 6 + j) = jq_mk 6) → post (q1, q2, q3, q4, q5, a1, a2, a3, a4, a5, a6, b7, b8, a9, a10, a11)) :
    wpX_mark post (q1, q2, q3, q4, q5, a1, a2, a3, a4, a5, a6, a7, a8, a9, a10, a11) p0 := by
  subst ep
  refine pk_loop (fun n i s => wX_mark_2 post (nI c) q1 q2 q3 q4 q5 n (nI i) a1 a2 a3 a4 a5 a6 s a8 a9 a10 a11) (fun i s => jq_out c a7 s ∧ ∀ j, j < i → s (c * 6 + j) = jq_mix (a6 (c * 6 + j)) 5) 6 0 a7 (by omega) ⟨fun _ _ => rfl, fun j hj => absurd hj (by omega)⟩ ?_ ?_
  · intro n s h
    refine pk_le 6 6 (fun _ => jq_m42 hc hD (fun hE j hj => ?_) (fun b7 b8 o e => H b7 b8 (fun j hj => (o j hj).trans (h.1 j hj)) e)) (fun z => absurd z (by omega))
    rw [h.2 j hj, hE.2 j hj]
    rfl
  · intro n i s hi h hw
    exact pk_le 6 i (fun z => absurd z (by omega)) (fun _ => ⟨pk_in (c * 6 + i) 12 (by omega) (jq_ix6 c i), jq_wmix ⟨pk_in (c * 6 + i) 12 (by omega) (jq_ix6 c i), nm_r (e' := upd s (c * 6 + i) (jq_mix (a6 (c * 6 + i)) 5)) (by rw [jq_ix6, nI_clamp (by omega)]) (nm_r (nI_1 i) (hw _ ⟨jq_out_u hi h.1, jq_fill (F := fun j => jq_mix (a6 (c * 6 + j)) 5) h.2 rfl⟩))⟩⟩)
end
end
section
section
variable {q4 q5 : Int32} {a1 a2 a3 a4 a5 a6 a7 a8 a9 a10 a11 : Nat → Int32} {post : St2 → Prop}
variable {J : Int32 → Int32 → Int32 → Int32 → Int32 → Int32 → Int32 → Int32 → (Nat → Int32) → (Nat → Int32) → (Nat → Int32) → (Nat → Int32) → (Nat → Int32) → (Nat → Int32) → (Nat → Int32) → (Nat → Int32) → (Nat → Int32) → (Nat → Int32) → (Nat → Int32) → Prop}
theorem jq_168 {l i : Nat} {x4 : Int32} (hP : ∀ c, c < 2 → a1 c = 0 ∨ a1 c = 1) (hl : l ≤ 5)
    (hu : l < 5 → jq_Ag (jq_cd a1 a2 a3 a4 a5 0) (jq_cd a1 a2 a3 a4 a5 1) a9 l → J (nI (l + 1)) x4 (nI (i + 1)) 0 1 (-1) q4 q5 a1 a2 a3 a4 a5 a6 a7 a8 (upd a9 (l + 1) (-1)) a10 a11)
    (hs : l = 5 ∨ ¬ jq_Ag (jq_cd a1 a2 a3 a4 a5 0) (jq_cd a1 a2 a3 a4 a5 1) a9 l → J (nI l) x4 (nI (i + 1)) 0 1 (-1) q4 q5 a1 a2 a3 a4 a5 a6 a7 a8 a9 a10 a11) :
    wX_search_168 post J (nI l) x4 (nI i) 0 1 (-1) q4 q5 a1 a2 a3 a4 a5 a6 a7 a8 a9 a10 a11 :=
  pk_le 5 l (fun z => nm_r (nI_1 i) (hs (Or.inl (by omega)))) (fun z => jq_agrees hP hl
    (fun e => br_f jq_10 (nm_r (nI_1 l) ⟨pk_in (l + 1) 8 (by omega), nm_r (e' := upd a9 (l + 1) (-1)) (by rw [nI_clamp (by omega)]) (nm_r (nI_1 i) (hu z e))⟩))
    (fun e => br_t rfl (nm_r (nI_1 i) (hs (Or.inr e)))))
/-- one round of the search at level l, the taken net of that level cleared from the mask x4 -/
theorem jq_rd {l i f : Nat} {x4 : Int32} (hP : ∀ c, c < 2 → a1 c = 0 ∨ a1 c = 1) (hl : l ≤ 5) (hf : f ≤ 6) (ef : a9 l + 1 = nI f)
    (hb : (∀ k, f ≤ k → k < 6 → ¬ jq_ok x4 a6 a7 l k) → J (nI l + (-1)) x4 (nI (i + 1)) 0 1 (-1) q4 q5 a1 a2 a3 a4 a5 a6 a7 a8 (upd a9 l (-1)) a10 a11)
    (hj : ∀ j, j < 6 → f ≤ j → jq_ok x4 a6 a7 l j → (∀ k, f ≤ k → k < j → ¬ jq_ok x4 a6 a7 l k) →
      (l = 5 → jq_Ag (jq_cd a1 a2 a3 a4 a5 0) (jq_cd a1 a2 a3 a4 a5 1) (upd a9 l (nI j)) l → ∀ b10 b11, J (nI l) (x4 ||| ((1 : Int32) <<< (nI j &&& 31))) (nI (i + 1)) 0 1 (-1) q4 (q5 + 1) a1 a2 a3 a4 a5 a6 a7 a8 (upd a9 l (nI j)) b10 b11) ∧
      (l < 5 → jq_Ag (jq_cd a1 a2 a3 a4 a5 0) (jq_cd a1 a2 a3 a4 a5 1) (upd a9 l (nI j)) l → J (nI (l + 1)) (x4 ||| ((1 : Int32) <<< (nI j &&& 31))) (nI (i + 1)) 0 1 (-1) q4 q5 a1 a2 a3 a4 a5 a6 a7 a8 (upd (upd a9 l (nI j)) (l + 1) (-1)) a10 a11) ∧
      (¬ jq_Ag (jq_cd a1 a2 a3 a4 a5 0) (jq_cd a1 a2 a3 a4 a5 1) (upd a9 l (nI j)) l → J (nI l) (x4 ||| ((1 : Int32) <<< (nI j &&& 31))) (nI (i + 1)) 0 1 (-1) q4 q5 a1 a2 a3 a4 a5 a6 a7 a8 (upd a9 l (nI j)) a10 a11)) :
    wX_search_102 post J (nI l) x4 (nI i) 0 1 (-1) q4 q5 a1 a2 a3 a4 a5 a6 a7 a8 a9 a10 a11 := by
  have hlc : (nI l).toNatClampNeg = l := nI_clamp (by omega)
  refine ⟨pk_in l 8 (by omega), jq_next (f := f) hl hf (by rw [hlc]; exact ef) (fun j hj1 hj2 hok hmin => ?_) (fun hno => ?_)⟩
  · obtain ⟨h5, hu, hs⟩ := hj j hj1 hj2 hok hmin
    refine ⟨pk_in l 8 (by omega), nm_r (e' := upd a9 l (nI j)) (by rw [hlc, jq_nb j (by omega)]) (br_t (nI_pos' (by omega)) (nm_e (jq_agrees hP hl (fun e => br_f jq_10 (pk_eq l 5 (fun z => ?_) (fun z => ?_))) (fun e => br_t rfl ?_))))⟩
    · exact jq_note (fun b10 b11 => nm_r (nI_1 i) (h5 z e b10 b11))
    · exact jq_168 hP hl (fun z' _ => hu z' e) (fun z' => z'.elim (fun t => absurd t z) (fun t => absurd e t))
    · exact jq_168 hP hl (fun _ z => absurd z e) (fun _ => hs e)
  · exact ⟨pk_in l 8 (by omega), nm_r (e' := upd a9 l (-1)) (by rw [hlc, show (-1 : Int32).toInt8.toInt32 = -1 by decide]) (br_f (by decide) (nm_e (nm_r (nI_1 i) (hb hno))))⟩
/-- the head of the search's loop, at level l -/
theorem jq_66 {n l i : Nat} {x4 : Int32} (hi : i < 8192) (hl : l ≤ 5) (hc : a9 l = -1 ∨ ∃ v, v < 6 ∧ a9 l = nI v)
    (h1 : a9 l = -1 → wX_search_102 post (wX_search_66 post n) (nI l) x4 (nI i) 0 1 (-1) q4 q5 a1 a2 a3 a4 a5 a6 a7 a8 a9 a10 a11)
    (h2 : ∀ v, v < 6 → a9 l = nI v → wX_search_102 post (wX_search_66 post n) (nI l) (x4 &&& (((1 : Int32) <<< (nI v &&& 31)) ^^^ (-1))) (nI i) 0 1 (-1) q4 q5 a1 a2 a3 a4 a5 a6 a7 a8 a9 a10 a11) :
    wX_search_66 post (n + 1) (nI l) x4 (nI i) 0 1 (-1) q4 q5 a1 a2 a3 a4 a5 a6 a7 a8 a9 a10 a11 := by
  have hlc : (nI l).toNatClampNeg = l := nI_clamp (by omega)
  refine pk_le 8192 i (fun z => absurd z (by omega)) (fun _ => br_f (nI_pos (by omega)) ⟨pk_in l 8 (by omega), ?_⟩)
  rw [hlc]
  rcases hc with e | ⟨v, hv, e⟩
  · exact br_t (by rw [e]; decide) (h1 e)
  · exact br_f (by rw [e]; exact nI_pos (by omega)) ⟨pk_in l 8 (by omega), nm_r (by rw [e]) (h2 v hv e)⟩
/-- the head of the search's loop, done -/
theorem jq_66x {n i : Nat} {x4 : Int32} (hi : i < 8192) (H : post (0, 1, -1, q4, q5, a1, a2, a3, a4, a5, a6, a7, a8, a9, a10, a11)) : wX_search_66 post (n + 1) (-1) x4 (nI i) 0 1 (-1) q4 q5 a1 a2 a3 a4 a5 a6 a7 a8 a9 a10 a11 :=
  pk_le 8192 i (fun z => absurd z (by omega)) (fun _ => br_t (by decide) H)
end
/-! the picture of a search that notes nothing -/
def jq_K0 (D0 D1 : Int32 → Int32 → Int32 → Int32 → Prop) (a6 : Nat → Int32) (l : Nat) (used : Int32) (ch : Nat → Int32) : Prop :=
  (∀ p, p < l → ∃ v, v < 6 ∧ ch p = nI v ∧ jq_bit used v ∧ a6 p = a6 (6 + v)) ∧ (∀ p, p < l → jq_Ag D0 D1 ch p) ∧ (∀ p p', p < p' → p' < l → ch p ≠ ch p')
def jq_K (D0 D1 : Int32 → Int32 → Int32 → Int32 → Prop) (a6 : Nat → Int32) (l : Nat) (used : Int32) (ch : Nat → Int32) : Prop :=
  jq_K0 D0 D1 a6 l used ch ∧ (ch l = -1 ∨ ∃ v, v < 6 ∧ ch l = nI v ∧ ∀ p, p < l → ch p ≠ nI v)
section
variable {D0 D1 : Int32 → Int32 → Int32 → Int32 → Prop} {a6 a7 : Nat → Int32}
theorem jq_Ag_c {ch ch' : Nat → Int32} {p : Nat} (e : ∀ q, q ≤ p → ch' q = ch q) (h : jq_Ag D0 D1 ch p) : jq_Ag D0 D1 ch' p := by
  intro t ht x hx
  obtain ⟨h1, h2⟩ := h t ht x hx
  refine ⟨fun g hg => ?_, fun h3 y hy => ?_⟩
  · have hg' : g ≤ p := by
      split at hg
      · omega
      · omega
    have := h1 g hg
    unfold jq_A1 at this ⊢
    rw [e g hg', e x (by omega), e p (by omega)]
    exact this
  · have := h2 h3 y hy
    unfold jq_A2 at this ⊢
    rw [e y (by omega), e x (by omega), e p (by omega)]
    exact this
theorem jq_K0_c {l : Nat} {used used' : Int32} {ch ch' : Nat → Int32} (h : jq_K0 D0 D1 a6 l used ch) (hu : ∀ p v, p < l → v < 6 → ch p = nI v → jq_bit used v → jq_bit used' v) (e : ∀ p, p < l → ch' p = ch p) : jq_K0 D0 D1 a6 l used' ch' := by
  obtain ⟨h1, h2, h3⟩ := h
  refine ⟨fun p hp => ?_, fun p hp => jq_Ag_c (fun q hq => e q (by omega)) (h2 p hp), fun p p' hp hp' => ?_⟩
  · obtain ⟨v, hv, hc, hb, hn⟩ := h1 p hp
    exact ⟨v, hv, (e p hp).trans hc, hu p v hp hv hc hb, hn⟩
  · rw [e p (by omega), e p' hp']
    exact h3 p p' hp hp'
theorem jq_K0_d {l : Nat} {used : Int32} {ch : Nat → Int32} (h : jq_K0 D0 D1 a6 (l + 1) used ch) : jq_K0 D0 D1 a6 l used ch :=
  ⟨fun p hp => h.1 p (by omega), fun p hp => h.2.1 p (by omega), fun p p' hp hp' => h.2.2 p p' hp (by omega)⟩
/-- a free net isn't one of those taken below -/
theorem jq_new {l j : Nat} {used : Int32} {ch : Nat → Int32} (h : jq_K0 D0 D1 a6 l used ch) (hok : jq_ok used a6 a7 l j) : ∀ p, p < l → ch p ≠ nI j := by
  intro p hp e
  obtain ⟨v, hv, hc, hb, hn⟩ := h.1 p hp
  rw [hc] at e
  have e' : nI v = nI j := e
  unfold jq_bit at hb
  rw [e'] at hb
  exact hb hok.1
theorem jq_K0_s {l j : Nat} {used : Int32} {ch : Nat → Int32} (h : jq_K0 D0 D1 a6 l used ch) : jq_K0 D0 D1 a6 l (used ||| ((1 : Int32) <<< (nI j &&& 31))) (upd ch l (nI j)) :=
  jq_K0_c h (fun p v hp hv _ hb => jq_bit_old hv hb) (fun p hp => pk_un (by omega))
theorem jq_K0_u {l j : Nat} {used : Int32} {ch : Nat → Int32} (hj : j < 6) (h : jq_K0 D0 D1 a6 l used ch) (hok : jq_ok used a6 a7 l j) (hA : jq_Ag D0 D1 (upd ch l (nI j)) l) : jq_K0 D0 D1 a6 (l + 1) (used ||| ((1 : Int32) <<< (nI j &&& 31))) (upd ch l (nI j)) := by
  have hn := jq_new h hok
  obtain ⟨h1, h2, h3⟩ := jq_K0_s (j := j) h
  refine ⟨fun p hp => ?_, fun p hp => ?_, fun p p' hp hp' => ?_⟩
  · by_cases e : p = l
    · rw [e]
      exact ⟨j, hj, pk_us, jq_bit_new hj, hok.2.1⟩
    · exact h1 p (by omega)
  · by_cases e : p = l
    · rw [e]
      exact hA
    · exact h2 p (by omega)
  · by_cases e : p' = l
    · rw [e, pk_us, pk_un (by omega)]
      exact hn p (by omega)
    · exact h3 p p' hp (by omega)
end
end
section
section
variable {q1 q2 q3 q4 q5 : Int32} {a1 a2 a3 a4 a5 a6 a7 a8 a9 a10 a11 : Nat → Int32} {post : St2 → Prop}
/-- nothing can be noted -/
def jq_no (D0 D1 : Int32 → Int32 → Int32 → Int32 → Prop) (a6 : Nat → Int32) : Prop :=
  ∀ ch : Nat → Int32, (∀ p, p < 6 → ∃ v, v < 6 ∧ ch p = nI v ∧ a6 p = a6 (6 + v)) → (∀ p p', p < p' → p' < 6 → ch p ≠ ch p') → (∀ p, p < 6 → jq_Ag D0 D1 ch p) → False
theorem jq_K_no {D0 D1 : Int32 → Int32 → Int32 → Int32 → Prop} {used : Int32} {ch : Nat → Int32} (h : jq_no D0 D1 a6) (k : jq_K0 D0 D1 a6 6 used ch) : False :=
  h ch (fun p hp => by
    obtain ⟨v, hv, e, _, n⟩ := k.1 p hp
    exact ⟨v, hv, e, n⟩) k.2.2 k.2.1
abbrev jq_S : Type := Int32 × Int32 × Int32 × (Nat → Int32) × (Nat → Int32) × (Nat → Int32)
/-- the invariant of the search that notes nothing -/
def jq_IF (D0 D1 : Int32 → Int32 → Int32 → Int32 → Prop) (a6 : Nat → Int32) (s : jq_S) : Prop :=
  s.2.2.1 = 0 ∧ (s.1 = -1 ∨ ∃ l, l ≤ 5 ∧ s.1 = nI l ∧ jq_K D0 D1 a6 l s.2.1 s.2.2.2.1)
/-- one round keeps it, behind the clearing of the mask -/
theorem jq_stF {n l i f : Nat} {x4 : Int32} (hP : ∀ c, c < 2 → a1 c = 0 ∨ a1 c = 1) (hno : jq_no (jq_cd a1 a2 a3 a4 a5 0) (jq_cd a1 a2 a3 a4 a5 1) a6) (hl : l ≤ 5) (hf : f ≤ 6) (ef : a9 l + 1 = nI f)
    (hk : jq_K0 (jq_cd a1 a2 a3 a4 a5 0) (jq_cd a1 a2 a3 a4 a5 1) a6 l x4 a9)
    (hw : ∀ s : jq_S, jq_IF (jq_cd a1 a2 a3 a4 a5 0) (jq_cd a1 a2 a3 a4 a5 1) a6 s → wX_search_66 post n s.1 s.2.1 (nI (i + 1)) 0 1 (-1) q4 s.2.2.1 a1 a2 a3 a4 a5 a6 a7 a8 s.2.2.2.1 s.2.2.2.2.1 s.2.2.2.2.2) :
    wX_search_102 post (wX_search_66 post n) (nI l) x4 (nI i) 0 1 (-1) q4 0 a1 a2 a3 a4 a5 a6 a7 a8 a9 a10 a11 := by
  refine jq_rd hP hl hf ef (fun _ => ?_) (fun j hj _ hok _ => ⟨fun h5 hA => ?_, fun h5 hA => ?_, fun hA => ?_⟩)
  · refine hw (nI l + (-1), x4, 0, upd a9 l (-1), a10, a11) ⟨rfl, ?_⟩
    cases l with
    | zero => exact Or.inl (show nI 0 + (-1) = -1 by decide)
    | succ l =>
      have hk' : jq_K0 (jq_cd a1 a2 a3 a4 a5 0) (jq_cd a1 a2 a3 a4 a5 1) a6 (l + 1) x4 (upd a9 (l + 1) (-1)) := jq_K0_c hk (fun _ _ _ _ _ b => b) (fun p hp => pk_un (by omega))
      refine Or.inr ⟨l, by omega, pk_m1 l, jq_K0_d hk', Or.inr ?_⟩
      obtain ⟨v, hv, e, _, _⟩ := hk'.1 l (by omega)
      refine ⟨v, hv, e, fun p hp => ?_⟩
      have := hk'.2.2 p l hp (by omega)
      rw [e] at this
      exact this
  · subst h5
    exact (jq_K_no hno (jq_K0_u hj hk hok hA)).elim
  · refine hw (nI (l + 1), _, 0, upd (upd a9 l (nI j)) (l + 1) (-1), a10, a11) ⟨rfl, Or.inr ⟨l + 1, by omega, rfl, ?_, Or.inl pk_us⟩⟩
    exact jq_K0_c (jq_K0_u hj hk hok hA) (fun _ _ _ _ _ b => b) (fun p hp => pk_un (by omega))
  · refine hw (nI l, _, 0, upd a9 l (nI j), a10, a11) ⟨rfl, Or.inr ⟨l, hl, rfl, jq_K0_s hk, Or.inr ⟨j, hj, pk_us, fun p hp => ?_⟩⟩⟩
    have e : upd a9 l (nI j) p = a9 p := pk_un (by omega)
    have t := jq_new hk hok p hp
    rw [← e] at t
    exact t
theorem jq_srchF (hP : ∀ c, c < 2 → a1 c = 0 ∨ a1 c = 1) (hno : jq_no (jq_cd a1 a2 a3 a4 a5 0) (jq_cd a1 a2 a3 a4 a5 1) a6)
    (H : ∀ b9 b10 b11, post (0, 1, -1, q4, 0, a1, a2, a3, a4, a5, a6, a7, a8, b9, b10, b11)) : wX_search_51 post 0 1 (-1) q4 0 a1 a2 a3 a4 a5 a6 a7 a8 a9 a10 a11 := by
  refine nm_e (pk_loop (σ := jq_S) (fun n i s => wX_search_66 post n s.1 s.2.1 (nI i) 0 1 (-1) q4 s.2.2.1 a1 a2 a3 a4 a5 a6 a7 a8 s.2.2.2.1 s.2.2.2.2.1 s.2.2.2.2.2) (fun _ s => jq_IF (jq_cd a1 a2 a3 a4 a5 0) (jq_cd a1 a2 a3 a4 a5 1) a6 s) 8192 0 (0, 0, 0, upd a9 0 (-1), a10, a11) (by omega) ?_ ?_ ?_)
  · exact ⟨rfl, Or.inr ⟨0, by omega, rfl, ⟨fun p hp => absurd hp (by omega), fun p hp => absurd hp (by omega), fun p p' _ hp => absurd hp (by omega)⟩, Or.inl (show upd a9 0 (-1) 0 = -1 from pk_us)⟩⟩
  · intro n s h
    obtain ⟨s1, s2, s3, s4, s5, s6⟩ := s
    have h3 : s3 = 0 := h.1
    subst h3
    exact pk_le 8192 8192 (fun _ => H s4 s5 s6) (fun z => absurd z (by omega))
  · intro n i s hi h hw
    obtain ⟨s1, s2, s3, s4, s5, s6⟩ := s
    obtain ⟨h3, h⟩ := h
    have h3 : s3 = 0 := h3
    subst h3
    rcases h with h | ⟨l, hl, e, hk, hc⟩
    · have h : s1 = -1 := h
      subst h
      exact jq_66x hi (H s4 s5 s6)
    · have e : s1 = nI l := e
      subst e
      refine jq_66 hi hl ?_ (fun e => ?_) (fun v hv e => ?_)
      · rcases hc with hc | ⟨v, hv, hc, _⟩
        · exact Or.inl hc
        · exact Or.inr ⟨v, hv, hc⟩
      · exact jq_stF (f := 0) hP hno hl (by omega) (by rw [e]; rfl) hk (fun s hs => hw s hs)
      · refine jq_stF (f := v + 1) hP hno hl (by omega) (by rw [e]; exact nI_1 v) (jq_K0_c hk (fun p w hp hw' ew hb => jq_bit_clr hv hw' ?_ hb) (fun _ _ => rfl)) (fun s hs => hw s hs)
        intro z
        subst z
        rcases hc with hc | ⟨v, hv', hc, hd⟩
        · exact absurd (e.symm.trans hc) (jq_neg (by omega))
        · exact hd p hp (ew.trans (e.symm.trans hc))
/-! the search of two empty circuits -/
def jq_vd (x : Int32) : Prop := x = -1 ∨ ∃ v, v < 6 ∧ x = nI v
theorem jq_vd_u {ch : Nat → Int32} {l k : Nat} {x : Int32} (h : ∀ p, p ≤ l → jq_vd (ch p)) (hx : jq_vd x) : ∀ p, p ≤ l → jq_vd (upd ch k x p) := by
  intro p hp
  by_cases e : p = k
  · rw [e, pk_us]
    exact hx
  · rw [pk_un e]
    exact h p hp
theorem jq_vd_s {ch : Nat → Int32} {l : Nat} {x : Int32} (h : ∀ p, p ≤ l → jq_vd (ch p)) (hx : jq_vd x) : ∀ p, p ≤ l + 1 → jq_vd (upd ch (l + 1) x p) := by
  intro p hp
  by_cases e : p = l + 1
  · rw [e, pk_us]
    exact hx
  · rw [pk_un e]
    exact h p (by omega)
def jq_IT (i : Nat) (s : jq_S) : Prop :=
  (i ≤ 5 ∧ s.1 = nI i ∧ s.2.1 = nI (2 ^ i - 1) ∧ s.2.2.1 = 0 ∧ s.2.2.2.1 i = -1 ∧ ∀ p, p ≤ i → jq_vd (s.2.2.2.1 p)) ∨
  (∃ k, 0 < k ∧ k ≤ i ∧ s.2.2.1 = nI k ∧ (s.1 = -1 ∨ ∃ l, l ≤ 5 ∧ s.1 = nI l ∧ ∀ p, p ≤ l → jq_vd (s.2.2.2.1 p)))
theorem jq_Ag_E (h0 : a1 0 = 0) (h1 : a1 1 = 0) (ch : Nat → Int32) (p : Nat) : jq_Ag (jq_cd a1 a2 a3 a4 a5 0) (jq_cd a1 a2 a3 a4 a5 1) ch p := by
  have n0 : ∀ t g x y, ¬ jq_cd a1 a2 a3 a4 a5 0 t g x y := fun t g x y z => jq_01 (h0.symm.trans z.1)
  have n1 : ∀ t g x y, ¬ jq_cd a1 a2 a3 a4 a5 1 t g x y := fun t g x y z => jq_01 (h1.symm.trans z.1)
  exact fun t _ x _ => ⟨fun g _ => ⟨fun z => absurd z (n0 _ _ _ _), fun z => absurd z (n1 _ _ _ _)⟩, fun _ y _ => ⟨fun z => absurd z (n0 _ _ _ _), fun z => absurd z (n1 _ _ _ _)⟩⟩
theorem jq_stT {n l i f k : Nat} {x4 : Int32} (hP : ∀ c, c < 2 → a1 c = 0 ∨ a1 c = 1) (hl : l ≤ 5) (hf : f ≤ 6) (ef : a9 l + 1 = nI f) (hk0 : 0 < k) (hki : k ≤ i) (hv : ∀ p, p ≤ l → jq_vd (a9 p))
    (hw : ∀ s : jq_S, jq_IT (i + 1) s → wX_search_66 post n s.1 s.2.1 (nI (i + 1)) 0 1 (-1) q4 s.2.2.1 a1 a2 a3 a4 a5 a6 a7 a8 s.2.2.2.1 s.2.2.2.2.1 s.2.2.2.2.2) :
    wX_search_102 post (wX_search_66 post n) (nI l) x4 (nI i) 0 1 (-1) q4 (nI k) a1 a2 a3 a4 a5 a6 a7 a8 a9 a10 a11 := by
  refine jq_rd hP hl hf ef (fun _ => ?_) (fun j hj _ hok _ => ⟨fun h5 hA b10 b11 => ?_, fun h5 hA => ?_, fun hA => ?_⟩)
  · refine hw (nI l + (-1), x4, nI k, upd a9 l (-1), a10, a11) (Or.inr ⟨k, hk0, by omega, rfl, ?_⟩)
    cases l with
    | zero => exact Or.inl (show nI 0 + (-1) = -1 by decide)
    | succ l => exact Or.inr ⟨l, by omega, pk_m1 l, jq_vd_u (fun p hp => hv p (by omega)) (Or.inl rfl)⟩
  · exact hw (nI l, _, nI k + 1, upd a9 l (nI j), b10, b11) (Or.inr ⟨k + 1, by omega, by omega, nI_1 k, Or.inr ⟨l, hl, rfl, jq_vd_u hv (Or.inr ⟨j, hj, rfl⟩)⟩⟩)
  · exact hw (nI (l + 1), _, nI k, upd (upd a9 l (nI j)) (l + 1) (-1), a10, a11) (Or.inr ⟨k, hk0, by omega, rfl, Or.inr ⟨l + 1, by omega, rfl, jq_vd_s (jq_vd_u hv (Or.inr ⟨j, hj, rfl⟩)) (Or.inl rfl)⟩⟩)
  · exact hw (nI l, _, nI k, upd a9 l (nI j), a10, a11) (Or.inr ⟨k, hk0, by omega, rfl, Or.inr ⟨l, hl, rfl, jq_vd_u hv (Or.inr ⟨j, hj, rfl⟩)⟩⟩)
/-- the first six rounds -/
theorem jq_st0 {n i : Nat} (h0 : a1 0 = 0) (h1 : a1 1 = 0) (h6 : ∀ p, p < 6 → ∀ j, j < 6 → a6 p = a6 (6 + j)) (h7 : ∀ p, p < 6 → ∀ j, j < 6 → a7 p = a7 (6 + j)) (hi : i ≤ 5) (e9 : a9 i = -1) (hv : ∀ p, p ≤ i → jq_vd (a9 p))
    (hw : ∀ s : jq_S, jq_IT (i + 1) s → wX_search_66 post n s.1 s.2.1 (nI (i + 1)) 0 1 (-1) q4 s.2.2.1 a1 a2 a3 a4 a5 a6 a7 a8 s.2.2.2.1 s.2.2.2.2.1 s.2.2.2.2.2) :
    wX_search_102 post (wX_search_66 post n) (nI i) (nI (2 ^ i - 1)) (nI i) 0 1 (-1) q4 0 a1 a2 a3 a4 a5 a6 a7 a8 a9 a10 a11 := by
  have hP : ∀ c, c < 2 → a1 c = 0 ∨ a1 c = 1 := fun c hc => co_2 (P := fun c => a1 c = 0 ∨ a1 c = 1) (Or.inl h0) (Or.inl h1) hc
  have hok : jq_ok (nI (2 ^ i - 1)) a6 a7 i i := ⟨(jq_bit_low i (by omega) i (by omega)).mpr (Nat.le_refl i), h6 i (by omega) i (by omega), h7 i (by omega) i (by omega)⟩
  refine jq_rd (f := 0) hP hi (by omega) (by rw [e9]; rfl) (fun z => absurd hok (z i (by omega) (by omega))) (fun j hj _ hoj hmin => ?_)
  have ej : j = i := by
    have a : i ≤ j := (jq_bit_low i (by omega) j hj).mp hoj.1
    rcases Nat.lt_or_ge i j with z | z
    · exact absurd hok (hmin i (by omega) z)
    · omega
  subst ej
  refine ⟨fun h5 hA b10 b11 => ?_, fun h5 hA => ?_, fun hA => absurd (jq_Ag_E h0 h1 _ _) hA⟩
  · exact hw (nI j, _, 0 + 1, upd a9 j (nI j), b10, b11) (Or.inr ⟨1, by omega, by omega, rfl, Or.inr ⟨j, hi, rfl, jq_vd_u hv (Or.inr ⟨j, hj, rfl⟩)⟩⟩)
  · exact hw (nI (j + 1), _, 0, upd (upd a9 j (nI j)) (j + 1) (-1), a10, a11) (Or.inl ⟨by omega, rfl, jq_low_or j hj, rfl, pk_us, jq_vd_s (jq_vd_u hv (Or.inr ⟨j, hj, rfl⟩)) (Or.inl rfl)⟩)
theorem jq_srchT (h0 : a1 0 = 0) (h1 : a1 1 = 0) (h6 : ∀ p, p < 6 → ∀ j, j < 6 → a6 p = a6 (6 + j)) (h7 : ∀ p, p < 6 → ∀ j, j < 6 → a7 p = a7 (6 + j))
    (H : ∀ k, 0 < k → k < 2 ^ 31 → ∀ b9 b10 b11, post (0, 1, -1, q4, nI k, a1, a2, a3, a4, a5, a6, a7, a8, b9, b10, b11)) : wX_search_51 post 0 1 (-1) q4 0 a1 a2 a3 a4 a5 a6 a7 a8 a9 a10 a11 := by
  have hP : ∀ c, c < 2 → a1 c = 0 ∨ a1 c = 1 := fun c hc => co_2 (P := fun c => a1 c = 0 ∨ a1 c = 1) (Or.inl h0) (Or.inl h1) hc
  refine nm_e (pk_loop (σ := jq_S) (fun n i s => wX_search_66 post n s.1 s.2.1 (nI i) 0 1 (-1) q4 s.2.2.1 a1 a2 a3 a4 a5 a6 a7 a8 s.2.2.2.1 s.2.2.2.2.1 s.2.2.2.2.2) (fun i s => jq_IT i s) 8192 0 (0, 0, 0, upd a9 0 (-1), a10, a11) (by omega) ?_ ?_ ?_)
  · refine Or.inl ⟨by omega, rfl, rfl, rfl, (show upd a9 0 (-1) 0 = -1 from pk_us), fun p hp => Or.inl ?_⟩
    have : p = 0 := by omega
    rw [this]
    exact (show upd a9 0 (-1) 0 = -1 from pk_us)
  · intro n s h
    obtain ⟨s1, s2, s3, s4, s5, s6⟩ := s
    rcases h with h | ⟨k, hk, hk', e, _⟩
    · exact absurd h.1 (by omega)
    · have e : s3 = nI k := e
      subst e
      exact pk_le 8192 8192 (fun _ => H k hk (by omega) s4 s5 s6) (fun z => absurd z (by omega))
  · intro n i s hi h hw
    obtain ⟨s1, s2, s3, s4, s5, s6⟩ := s
    rcases h with ⟨hi5, e1, e2, e3, e4, hv⟩ | ⟨k, hk, hk', e3, h⟩
    · have e1 : s1 = nI i := e1
      have e2 : s2 = nI (2 ^ i - 1) := e2
      have e3 : s3 = 0 := e3
      subst e1
      subst e2
      subst e3
      exact jq_66 hi hi5 (Or.inl e4) (fun e => jq_st0 h0 h1 h6 h7 hi5 e4 hv (fun s hs => hw s hs)) (fun v hv' e => absurd (e.symm.trans e4) (jq_neg (by omega)))
    · have e3 : s3 = nI k := e3
      subst e3
      rcases h with h | ⟨l, hl, e, hv⟩
      · have h : s1 = -1 := h
        subst h
        exact jq_66x hi (H k hk (by omega) s4 s5 s6)
      · have e : s1 = nI l := e
        subst e
        exact jq_66 hi hl (hv l (Nat.le_refl l)) (fun e => jq_stT (f := 0) hP hl (by omega) (by rw [e]; rfl) hk hk' hv (fun s hs => hw s hs)) (fun v hv' e => jq_stT (f := v + 1) hP hl (by omega) (by rw [e]; exact nI_1 v) hk hk' hv (fun s hs => hw s hs))
theorem jq_search (hD : ∀ c, c < 2 → jq_D a1 a2 a3 a4 a5 c)
    (H : ∀ b7 b8 b11, (jq_E a1 a6 0 → jq_E a1 a6 1 → ∀ p, p < 6 → ∀ j, j < 6 → b7 p = b7 (6 + j)) → wX_search_51 post 0 1 (-1) q4 0 a1 a2 a3 a4 a5 a6 b7 b8 a9 a10 b11) :
    wpX_search post (q1, q2, -1, q4, q5, a1, a2, a3, a4, a5, a6, a7, a8, a9, a10, a11) 0 1 := by
  refine pk_loop (fun n i s => wX_search_17 post 0 1 0 1 (-1) q4 0 n (nI i) a1 a2 a3 a4 a5 a6 a7 a8 a9 a10 s) (fun _ _ => True) 6 0 a11 (by omega) trivial ?_ ?_
  · intro n s _
    refine pk_le 6 6 (fun _ => jq_mark (c := 0) rfl (by omega) (hD 0 (by omega)) (fun b7 b8 o1 m1 => br_f jq_01 (jq_mark (c := 1) rfl (by omega) (hD 1 (by omega)) (fun c7 c8 o2 m2 => H c7 c8 s (fun E0 E1 p hp j hj => ?_))))) (fun z => absurd z (by omega))
    have u := m1 E0 p hp
    have v := m2 E1 j hj
    rw [Nat.zero_mul, Nat.zero_add] at u
    rw [Nat.one_mul] at v
    rw [o2 p (Or.inl (by omega)), u, v]
  · intro n i s hi _ hw
    exact pk_le 6 i (fun z => absurd z (by omega)) (fun _ => ⟨pk_in i 6 hi, nm_e (nm_r (nI_1 i) (hw _ trivial))⟩)
end
section
variable {q1 q2 q3 q4 q5 : Int32} {a1 a2 a3 a4 a5 a6 a7 a8 a9 a10 a11 : Nat → Int32} {post : Int32 → St2 → Prop}
theorem jq_matchF (hD : ∀ c, c < 2 → jq_D a1 a2 a3 a4 a5 c) (hno : jq_no (jq_cd a1 a2 a3 a4 a5 0) (jq_cd a1 a2 a3 a4 a5 1) a6)
    (H : ∀ b7 b8 b9 b10 b11, post 0 (0, 1, -1, q4, 0, a1, a2, a3, a4, a5, a6, b7, b8, b9, b10, b11)) : wpX_match post (q1, q2, q3, q4, q5, a1, a2, a3, a4, a5, a6, a7, a8, a9, a10, a11) := by
  unfold wpX_match wpX_countMatches
  exact jq_search hD (fun b7 b8 b11 _ => jq_srchF (fun c hc => jq_D_P (hD c hc)) hno (fun b9 b10 b11' => br_t (by decide) (H b7 b8 b9 b10 b11')))
theorem jq_matchT (hD : ∀ c, c < 2 → jq_D a1 a2 a3 a4 a5 c) (h0 : a1 0 = 0) (h1 : a1 1 = 0) (h6 : ∀ p, p < 12 → a6 p = -1)
    (H : ∀ z b7 b8 b9 b10 b11, post 1 (0, 1, -1, q4, z, a1, a2, a3, a4, a5, a6, b7, b8, b9, b10, b11)) : wpX_match post (q1, q2, q3, q4, q5, a1, a2, a3, a4, a5, a6, a7, a8, a9, a10, a11) := by
  unfold wpX_match wpX_countMatches
  exact jq_search hD (fun b7 b8 b11 h7 => jq_srchT h0 h1 (fun p hp j hj => by rw [h6 p (by omega), h6 (6 + j) (by omega)]) (h7 ⟨h0, fun j hj => h6 _ (by omega)⟩ ⟨h1, fun j hj => h6 _ (by omega)⟩) (fun k hk hk' b9 b10 b11' => br_f (nI_nle hk hk') (H _ b7 b8 b9 b10 b11')))
end
end
section
/-! plain rows: pigeons, full agreement, what can't be noted -/
theorem jq_pig : ∀ (n : Nat) (f : Nat → Nat), (∀ p, p < n + 1 → f p < n) → ∃ p q, p < q ∧ q < n + 1 ∧ f p = f q := by
  intro n
  induction n with
  | zero =>
    intro f h
    exact absurd (h 0 (by omega)) (by omega)
  | succ n ih =>
    intro f h
    by_cases hx : ∃ p, p < n + 1 ∧ f p = f (n + 1)
    · obtain ⟨p, hp, e⟩ := hx
      exact ⟨p, n + 1, hp, by omega, e⟩
    · have hx' : ∀ p, p < n + 1 → f p ≠ f (n + 1) := fun p hp e => hx ⟨p, hp, e⟩
      have ha := h (n + 1) (by omega)
      obtain ⟨p, q, hpq, hq, e⟩ := ih (fun p => if f p = n then f (n + 1) else f p) (fun p hp => by
        have h1 := h p (by omega)
        have h2 := hx' p hp
        show (if f p = n then f (n + 1) else f p) < n
        split
        · omega
        · omega)
      have e : (if f p = n then f (n + 1) else f p) = (if f q = n then f (n + 1) else f q) := e
      have h1 := hx' p (by omega)
      have h2 := hx' q hq
      refine ⟨p, q, hpq, by omega, ?_⟩
      split at e
      · split at e
        · omega
        · omega
      · split at e
        · omega
        · omega
theorem jq_surj {ch : Nat → Int32} (h1 : ∀ p, p < 6 → ∃ v, v < 6 ∧ ch p = nI v) (hd : ∀ p p', p < p' → p' < 6 → ch p ≠ ch p') {v : Nat} (hv : v < 6) : ∃ p, p < 6 ∧ ch p = nI v := by
  by_cases hx : ∃ p, p < 6 ∧ ch p = nI v
  · exact hx
  · exfalso
    have hf : ∀ p, p < 6 → (ch p).toNatClampNeg < 6 ∧ ch p = nI (ch p).toNatClampNeg ∧ (ch p).toNatClampNeg ≠ v := by
      intro p hp
      obtain ⟨w, hw, e⟩ := h1 p hp
      have ec : (ch p).toNatClampNeg = w := by rw [e]; exact nI_clamp (by omega)
      rw [ec]
      exact ⟨hw, e, fun z => hx ⟨p, hp, by rw [e, z]⟩⟩
    obtain ⟨p, q, hpq, hq, e⟩ := jq_pig 5 (fun p => if (ch p).toNatClampNeg = 5 then v else (ch p).toNatClampNeg) (fun p hp => by
      have h2 := hf p hp
      show (if (ch p).toNatClampNeg = 5 then v else (ch p).toNatClampNeg) < 5
      split
      · omega
      · omega)
    have e : (if (ch p).toNatClampNeg = 5 then v else (ch p).toNatClampNeg) = (if (ch q).toNatClampNeg = 5 then v else (ch q).toNatClampNeg) := e
    have h2 := hf p (by omega)
    have h3 := hf q hq
    have e' : (ch p).toNatClampNeg = (ch q).toNatClampNeg := by
      have a := h2.2.2
      have b := h3.2.2
      split at e
      · split at e
        · omega
        · omega
      · split at e
        · omega
        · omega
    refine hd p q hpq hq ?_
    rw [h2.2.1, h3.2.1, e']
section
variable {a1 a2 a3 a4 a5 a6 : Nat → Int32}
theorem jq_cd_sy {c : Nat} {t g x y : Int32} (h : jq_cd a1 a2 a3 a4 a5 c t g x y) : jq_cd a1 a2 a3 a4 a5 c t g y x := by
  unfold jq_cd at h ⊢
  by_cases h1 : y ≤ x
  · by_cases h2 : x ≤ y
    · have e : x = y := Int32.le_antisymm h2 h1
      subst e
      exact h
    · rw [if_pos h1, if_pos h1] at h
      rw [if_neg h2, if_neg h2]
      exact h
  · have h2 : x ≤ y := (Int32.le_total x y).resolve_right h1
    rw [if_neg h1, if_neg h1] at h
    rw [if_pos h2, if_pos h2]
    exact h
theorem jq_cd_si {c : Nat} {t g x y : Int32} : jq_cd a1 a2 a3 a4 a5 c t g x y ↔ jq_cd a1 a2 a3 a4 a5 c t g y x := ⟨jq_cd_sy, jq_cd_sy⟩
theorem jq_cd_2 {c : Nat} {g g' x y : Int32} (h : jq_cd a1 a2 a3 a4 a5 c (nI 2) g x y) : jq_cd a1 a2 a3 a4 a5 c (nI 2) g' x y :=
  ⟨h.1, h.2.1, h.2.2.1, h.2.2.2.1, Or.inl rfl⟩
theorem jq_full {ch : Nat → Int32} (h : ∀ p, p < 6 → jq_Ag (jq_cd a1 a2 a3 a4 a5 0) (jq_cd a1 a2 a3 a4 a5 1) ch p) {t g x y : Nat} (ht : t < 3) (hg : g < 6) (hx : x < 6) (hy : y < 6) :
    jq_cd a1 a2 a3 a4 a5 0 (nI t) (nI g) (nI x) (nI y) ↔ jq_cd a1 a2 a3 a4 a5 1 (nI t) (ch g) (ch x) (ch y) := by
  have main : ∀ x y : Nat, x ≤ y → y < 6 → (jq_cd a1 a2 a3 a4 a5 0 (nI t) (nI g) (nI x) (nI y) ↔ jq_cd a1 a2 a3 a4 a5 1 (nI t) (ch g) (ch x) (ch y)) := by
    intro x y hxy hy
    by_cases e : t = 2
    · subst e
      have u := (h y hy 2 (by omega) x (by omega)).1 0 (by omega)
      exact ⟨fun z => jq_cd_2 (u.mp (jq_cd_2 z)), fun z => jq_cd_2 (u.mpr (jq_cd_2 z))⟩
    · by_cases hgy : g ≤ y
      · exact (h y hy t ht x (by omega)).1 g (by rw [if_neg e]; omega)
      · exact (h g hg t ht x (by omega)).2 e y (by omega)
  rcases Nat.le_total x y with z | z
  · exact main x y z hy
  · exact jq_cd_si.trans ((main y x z hx).trans jq_cd_si)
theorem jq_cd_own {c t g x y : Nat} (h1 : a1 c = 1) (e2 : a2 (c * 7) = nI t) (e3 : a3 (c * 7) = nI g) (e4 : a4 (c * 7) = nI x) (e5 : a5 (c * 7) = nI y) (hxy : x ≤ y) (hy : y < 6) : jq_cd a1 a2 a3 a4 a5 c (nI t) (nI g) (nI x) (nI y) := by
  unfold jq_cd
  by_cases z : nI y ≤ nI x
  · have : y ≤ x := (nI_leI (by omega) (by omega)).mp z
    have e : x = y := by omega
    subst e
    rw [if_pos z]
    exact ⟨h1, e2, e4, e5, Or.inr e3⟩
  · rw [if_neg z, if_neg z]
    exact ⟨h1, e2, e4, e5, Or.inr e3⟩
theorem jq_no_dev (hD : ∀ c, c < 2 → jq_D a1 a2 a3 a4 a5 c) (h : (a1 0 = 1 ∧ a1 1 = 0) ∨ (a1 0 = 0 ∧ a1 1 = 1)) : jq_no (jq_cd a1 a2 a3 a4 a5 0) (jq_cd a1 a2 a3 a4 a5 1) a6 := by
  intro ch hv hd hA
  rcases h with ⟨h0, h1⟩ | ⟨h0, h1⟩
  · rcases hD 0 (by omega) with z | ⟨_, t, g, x, y, ht, hg, hxy, hy, e2, e3, e4, e5⟩
    · exact jq_01 (z.symm.trans h0)
    · exact jq_01 (h1.symm.trans ((jq_full hA ht hg (Nat.lt_of_le_of_lt hxy hy) hy).mp (jq_cd_own h0 e2 e3 e4 e5 hxy hy)).1)
  · rcases hD 1 (by omega) with z | ⟨_, t, g, x, y, ht, hg, hxy, hy, e2, e3, e4, e5⟩
    · exact jq_01 (z.symm.trans h1)
    · have hv' : ∀ p, p < 6 → ∃ v, v < 6 ∧ ch p = nI v := fun p hp => by
        obtain ⟨v, hv1, hv2, _⟩ := hv p hp
        exact ⟨v, hv1, hv2⟩
      obtain ⟨pg, hpg, eg⟩ := jq_surj hv' hd hg
      obtain ⟨px, hpx, ex⟩ := jq_surj hv' hd (Nat.lt_of_le_of_lt hxy hy)
      obtain ⟨py, hpy, ey⟩ := jq_surj hv' hd hy
      have u := jq_full hA ht hpg hpx hpy
      rw [eg, ex, ey] at u
      exact jq_01 (h0.symm.trans (u.mpr (jq_cd_own h1 e2 e3 e4 e5 hxy hy)).1)
theorem jq_no_n0 {D0 D1 : Int32 → Int32 → Int32 → Int32 → Prop} {i : Nat} (hi : i < 6) (h : a6 i ≠ -1) (h' : ∀ j, j < 6 → a6 (6 + j) = -1) : jq_no D0 D1 a6 := by
  intro ch hv _ _
  obtain ⟨v, hv1, _, e⟩ := hv i hi
  exact h (e.trans (h' v hv1))
theorem jq_no_n1 {D0 D1 : Int32 → Int32 → Int32 → Int32 → Prop} {i : Nat} (hi : i < 6) (h : a6 (6 + i) ≠ -1) (h' : ∀ j, j < 6 → a6 j = -1) : jq_no D0 D1 a6 := by
  intro ch hv hd _
  obtain ⟨p, hp, e⟩ := jq_surj (fun p hp => by
    obtain ⟨v, hv1, hv2, _⟩ := hv p hp
    exact ⟨v, hv1, hv2⟩) hd hi
  obtain ⟨v, hv1, hv2, hv3⟩ := hv p hp
  have ev : v = i := (nI_eq (by omega) (by omega)).mp (hv2.symm.trans e)
  subst ev
  exact h (hv3.symm.trans (h' p hp))
end
end
section
/-! the law's calls: init, add, name, degree, devices, match, surplus -/
theorem jq_init {post : St2 → Prop} (H : ∀ b6 : Nat → Int32, (∀ j, j < 12 → b6 j = -1) → post (0, 0, 0, 0, 0, (fun _ => 0), (fun _ => 0), (fun _ => 0), (fun _ => 0), (fun _ => 0), b6, (fun _ => 0), (fun _ => 0), (fun _ => 0), (fun _ => 0), (fun _ => 0))) : wpX_init post 11 114 (0, 0, 0, 0, 0) :=
  ⟨by decide, by decide, by decide, by decide, by decide, by decide, by decide, by decide, by decide, by decide, by decide, by decide, by decide, by decide, by decide, by decide, by decide, by decide, by decide, by decide, by decide, by decide,
    pk_loop (fun n i s => wX_init_93 post 11 114 11 114 0 0 0 0 0 n (nI i) (fun _ => 0) (fun _ => 0) (fun _ => 0) (fun _ => 0) (fun _ => 0) s (fun _ => 0) (fun _ => 0) (fun _ => 0) (fun _ => 0) (fun _ => 0)) (fun i s => ∀ j, j < i → s j = -1) 12 0 (fun _ => 0) (by omega) (fun j hj => absurd hj (by omega))
      (fun n s h => pk_le 12 12 (fun _ => H s h) (fun z => absurd z (by omega)))
      (fun n i s hi h hw => pk_le 12 i (fun z => absurd z (by omega)) (fun _ => ⟨pk_in i 12 hi, nm_r (e' := upd s i (-1)) (by rw [nI_clamp (by omega)]) (nm_r (nI_1 i) (hw _ (jq_fill0 (F := fun _ => -1) h rfl)))⟩))⟩
/-- what add asks -/
def jq_G (c ty nets : Int32) : Prop := (c = 0 ∨ c = 1) ∧ jq_N 3 ty ∧ jq_N 6 (nets &&& 7) ∧ jq_N 6 ((nets >>> ((3 : Int32) &&& 31)) &&& 7) ∧ jq_N 6 (nets >>> ((6 : Int32) &&& 31))
theorem jq_c2o {c : Int32} (h : c = 0 ∨ c = 1) : ∃ k : Nat, k < 2 ∧ c = nI k := by
  rcases h with h | h
  · exact ⟨0, by omega, h⟩
  · exact ⟨1, by omega, h⟩
section
variable {q1 q2 q3 q4 q5 : Int32} {a1 a2 a3 a4 a5 a6 a7 a8 a9 a10 a11 : Nat → Int32}
theorem jq_a163 {post : Int32 → St2 → Prop} {k x y : Nat} {z0 : Int32} (hk : k < 2) (hx : x < 6) (hy : y < 6) (hz : z0.toInt8.toInt32 = z0)
    (H : post 0 (q1, q2, q3, q4, q5, a1, a2, a3, upd a4 (k * 7) z0, upd a5 (k * 7) (nI (max x y)), a6, a7, a8, a9, a10, a11)) :
    wX_add_163 post (nI k) (nI x) (nI y) 0 z0 (nI k * 7 + 0) q1 q2 q3 q4 q5 a1 a2 a3 a4 a5 a6 a7 a8 a9 a10 a11 := by
  have hcl : (nI k * 7 + 0).toNatClampNeg = k * 7 := pk_cl (k * 7) (jq_ix7 k 0)
  refine ⟨pk_in (k * 7) 14 (by omega) (jq_ix7 k 0), nm_r (e' := upd a4 (k * 7) z0) (by rw [hcl, hz]) (pk_le y x (fun z => ⟨pk_in (k * 7) 14 (by omega) (jq_ix7 k 0), nm_r (e' := upd a5 (k * 7) (nI (max x y))) ?_ H⟩) (fun z => ⟨pk_in (k * 7) 14 (by omega) (jq_ix7 k 0), nm_r (e' := upd a5 (k * 7) (nI (max x y))) ?_ H⟩))⟩
  · rw [hcl, jq_nb x (by omega), show max x y = x by omega]
  · rw [hcl, jq_nb y (by omega), show max x y = y by omega]
theorem jq_a136 {post : Int32 → St2 → Prop} {k x y : Nat} {z0 : Int32} (hk : k < 2) (hx : x < 6) (hy : y < 6) (hz : z0.toInt8.toInt32 = z0)
    (H : post 0 (q1, q2, q3, q4, q5, a1, a2, upd a3 (k * 7) z0, upd a4 (k * 7) (nI (min x y)), upd a5 (k * 7) (nI (max x y)), a6, a7, a8, a9, a10, a11)) :
    wX_add_136 post (nI k) (nI x) (nI y) 0 z0 (nI k * 7 + 0) q1 q2 q3 q4 q5 a1 a2 a3 a4 a5 a6 a7 a8 a9 a10 a11 := by
  have hcl : (nI k * 7 + 0).toNatClampNeg = k * 7 := pk_cl (k * 7) (jq_ix7 k 0)
  refine ⟨pk_in (k * 7) 14 (by omega) (jq_ix7 k 0), nm_r (e' := upd a3 (k * 7) z0) (by rw [hcl, hz]) (pk_le y x (fun z => ?_) (fun z => ?_))⟩
  · rw [show min x y = y by omega] at H
    exact jq_a163 hk hx hy (jq_nb y (by omega)) H
  · rw [show min x y = x by omega] at H
    exact jq_a163 hk hx hy (jq_nb x (by omega)) H
theorem jq_add {post : Int32 → St2 → Prop} {c ty nets : Int32} (hE : ∀ k, k < 2 → a1 k = 0)
    (h0 : ¬ jq_G c ty nets → post (-1) (q1, q2, q3, q4, q5, a1, a2, a3, a4, a5, a6, a7, a8, a9, a10, a11))
    (h1 : ∀ k t g x y : Nat, k < 2 → t < 3 → g < 6 → x < 6 → y < 6 → c = nI k → ty = nI t → nets &&& 7 = nI g → (nets >>> ((3 : Int32) &&& 31)) &&& 7 = nI x → nets >>> ((6 : Int32) &&& 31) = nI y →
      post 0 (q1, q2, q3, q4, q5, upd a1 k 1, upd a2 (k * 7) (nI t), upd a3 (k * 7) (if t = 2 then 0 else nI g), upd a4 (k * 7) (nI (min x y)), upd a5 (k * 7) (nI (max x y)), a6, a7, a8, a9, a10, a11)) :
    wpX_add post (q1, q2, q3, q4, q5, a1, a2, a3, a4, a5, a6, a7, a8, a9, a10, a11) c ty nets := by
  unfold wpX_add
  refine nm_e (nm_e (nm_e (jq_isC (fun nC => br_t rfl (h0 (fun z => nC z.1))) (fun hC => br_f jq_10 ?_))))
  rcases pk_ix ty (n := 3) (by decide) with h | h | ⟨t, ht, et⟩
  · refine br_t h (h0 (fun z => ?_))
    obtain ⟨j, hj, e⟩ := z.2.1
    rw [e] at h
    exact nI_pos (by omega) h
  · have hn : ¬ jq_G c ty nets := by
      intro z
      obtain ⟨j, hj, e⟩ := z.2.1
      rw [e] at h
      exact nI_ge hj (by decide) h
    exact br_c (fun _ => h0 hn) (fun _ => br_t h (h0 hn))
  · obtain ⟨k, hk, ec⟩ := jq_c2o hC
    refine br_f (by rw [et]; exact nI_pos (by omega)) (br_f (by rw [et]; exact nI_ge (b := 3) ht (by decide)) (jq_isN (fun n => br_t rfl (h0 (fun z => n z.2.2.1))) (fun Hg => br_f jq_10 (jq_isN (fun n => br_t rfl (h0 (fun z => n z.2.2.2.1))) (fun Hx => br_f jq_10 (jq_isN (fun n => br_t rfl (h0 (fun z => n z.2.2.2.2))) (fun Hy => br_f jq_10 ?_)))))))
    obtain ⟨g, hg, eg⟩ := Hg
    obtain ⟨x, hx, ex⟩ := Hx
    obtain ⟨y, hy, ey⟩ := Hy
    have hh := h1 k t g x y hk ht hg hx hy ec et eg ex ey
    clear h1
    rw [eg, ex, ey]
    subst ec
    subst et
    have hcl : (nI k * 7 + 0).toNatClampNeg = k * 7 := pk_cl (k * 7) (jq_ix7 k 0)
    refine ⟨1, br_f (show ¬ (7 : Int32) ≤ 0 by decide) (jq_has k 0 rfl rfl hk (by omega) (Or.inl (hE k hk)) (fun _ => br_t rfl ⟨pk_in k 2 hk, pk_in k 2 hk, nm_r (e' := upd a1 k 1) ?_ ⟨pk_in (k * 7) 14 (by omega) (jq_ix7 k 0), nm_r (e' := upd a2 (k * 7) (nI t)) (by rw [hcl, jq_nb t (by omega)]) (pk_eq t 2 (fun z => ?_) (fun z => ?_))⟩⟩) (fun z => absurd ((hE k hk).symm.trans z.1) jq_01))⟩
    · rw [nI_clamp (show k < 2 ^ 31 by omega), hE k hk]
      rfl
    · rw [if_pos z] at hh
      exact jq_a136 hk hx hy rfl hh
    · rw [if_neg z] at hh
      exact jq_a136 hk hx hy (jq_nb g (by omega)) hh
/-- what name asks -/
def jq_SE (c i nm : Int32) : Prop := (c = 0 ∨ c = 1) ∧ jq_N 6 i ∧ ¬ nm < -1 ∧ nm ≤ 3
theorem jq_nm3 {x : Int32} (h1 : ¬ x < -1) (h2 : x ≤ 3) : x = -1 ∨ jq_N 4 x := by
  rcases pk_ix x (n := 4) (by decide) with h | h | h
  · refine Or.inl (Int32.toInt_inj.mp ?_)
    rw [Int32.lt_iff_toInt_lt] at h1 h
    have e1 : (-1 : Int32).toInt = -1 := by decide
    have e0 : (0 : Int32).toInt = 0 := by decide
    omega
  · rw [Int32.le_iff_toInt_le] at h2 h
    have e1 : (nI 4).toInt = 4 := by decide
    have e0 : (3 : Int32).toInt = 3 := by decide
    omega
  · exact Or.inr h
theorem jq_nm8 {x : Int32} (h1 : ¬ x < -1) (h2 : x ≤ 3) : x.toInt8.toInt32 = x := by
  rcases jq_nm3 h1 h2 with h | ⟨j, hj, h⟩
  · rw [h]
    decide
  · rw [h]
    exact jq_nb j (by omega)
theorem jq_name {post : Int32 → St2 → Prop} {c i nm : Int32} (h0 : ¬ jq_SE c i nm → post 0 (q1, q2, q3, q4, q5, a1, a2, a3, a4, a5, a6, a7, a8, a9, a10, a11))
    (h1 : ∀ k j : Nat, k < 2 → j < 6 → c = nI k → i = nI j → ¬ nm < -1 → nm ≤ 3 → post 1 (q1, q2, q3, q4, q5, a1, a2, a3, a4, a5, upd a6 (k * 6 + j) nm, a7, a8, a9, a10, a11)) : wpX_name post (q1, q2, q3, q4, q5, a1, a2, a3, a4, a5, a6, a7, a8, a9, a10, a11) c i nm := by
  unfold wpX_name
  refine jq_isC (fun n => br_t rfl (h0 (fun z => n z.1))) (fun hC => br_f jq_10 (jq_isN (fun n => br_t rfl (h0 (fun z => n z.2.1))) (fun hI => br_f jq_10 (br_c (fun e => h0 (fun z => z.2.2.1 e)) (fun e => br_c (fun e3 => ?_) (fun e3 => h0 (fun z => e3 z.2.2.2)))))))
  obtain ⟨k, hk, ec⟩ := jq_c2o hC
  obtain ⟨j, hj, ei⟩ := hI
  have h := h1 k j hk hj ec ei e e3
  subst ec
  subst ei
  exact ⟨pk_in (k * 6 + j) 12 (by omega) (jq_ix6 k j), nm_r (e' := upd a6 (k * 6 + j) nm) (by rw [jq_ix6, nI_clamp (by omega), jq_nm8 e e3]) h⟩
/-! degree -/
def jq_ib (x y : Int32) : Int32 := if x = y then 1 else 0
theorem jq_dgt {post : Int32 → Prop} {c : Nat} {x2 : Int32} (hc : c < 2) (hP : a1 c = 0 ∨ a1 c = 1) (v : Int32) (hp : post v) :
    ∀ k d : Nat, d + k = 7 → (a1 c = 1 → 0 < d) → wX_degree_21 post (nI c) x2 q1 q2 q3 q4 q5 a1 a2 a3 a4 a5 a6 a7 a8 a9 a10 a11 (k + 1) v (nI d) := by
  intro k
  induction k with
  | zero =>
    intro d hd _
    exact pk_le 7 d (fun _ => hp) (fun z => absurd z (by omega))
  | succ k ih =>
    intro d hd h0
    exact pk_le 7 d (fun z => absurd z (by omega)) (fun _ => jq_has c d rfl rfl hc (by omega) hP
      (fun _ => br_t rfl (nm_r (nI_1 d) (ih (d + 1) (by omega) (fun _ => by omega))))
      (fun z => absurd (h0 z.1) (by omega)))
theorem jq_dg94 {post : Int32 → Prop} {J : Int32 → Int32 → Prop} {c : Nat} {x1 x2 z0 z1 : Int32} (hc : c < 2) (H : J ((z1 + z0) + jq_ib (a5 (c * 7)) x2) (nI 1)) :
    wX_degree_94 post J x1 x2 0 (nI (c * 7)) z0 z1 q1 q2 q3 q4 q5 a1 a2 a3 a4 a5 a6 a7 a8 a9 a10 a11 := by
  have hcl : (nI (c * 7)).toNatClampNeg = c * 7 := nI_clamp (by omega)
  refine nm_e ⟨pk_in (c * 7) 14 (by omega), ?_⟩
  rw [hcl]
  unfold jq_ib at H
  refine br_c (fun e => ?_) (fun e => ?_)
  · rw [if_pos e] at H
    exact nm_e (nm_r (nI_1 0) H)
  · rw [if_neg e] at H
    exact nm_e (nm_r (nI_1 0) H)
theorem jq_dg75 {post : Int32 → Prop} {J : Int32 → Int32 → Prop} {c : Nat} {x1 x2 z0 z1 : Int32} (hc : c < 2) (H : J (((z1 + z0) + jq_ib (a4 (c * 7)) x2) + jq_ib (a5 (c * 7)) x2) (nI 1)) :
    wX_degree_75 post J x1 x2 0 (nI (c * 7)) z0 z1 q1 q2 q3 q4 q5 a1 a2 a3 a4 a5 a6 a7 a8 a9 a10 a11 := by
  have hcl : (nI (c * 7)).toNatClampNeg = c * 7 := nI_clamp (by omega)
  refine nm_e ⟨pk_in (c * 7) 14 (by omega), ?_⟩
  rw [hcl]
  refine br_c (fun e => jq_dg94 hc ?_) (fun e => jq_dg94 hc ?_)
  · rw [show jq_ib (a4 (c * 7)) x2 = 1 from if_pos e] at H
    exact H
  · rw [show jq_ib (a4 (c * 7)) x2 = 0 from if_neg e] at H
    exact H
theorem jq_degree {post : Int32 → Prop} {c i : Int32} (hP : ∀ k, k < 2 → a1 k = 0 ∨ a1 k = 1)
    (hn : ¬ ((c = 0 ∨ c = 1) ∧ jq_N 6 i) → post (-1))
    (h0 : ∀ k, k < 2 → c = nI k → jq_N 6 i → a1 k = 0 → post 0)
    (h1 : ∀ k, k < 2 → c = nI k → jq_N 6 i → a1 k = 1 → post (((0 + (if a2 (k * 7) = 2 then 0 else jq_ib (a3 (k * 7)) i)) + jq_ib (a4 (k * 7)) i) + jq_ib (a5 (k * 7)) i)) :
    wpX_degree post (q1, q2, q3, q4, q5, a1, a2, a3, a4, a5, a6, a7, a8, a9, a10, a11) c i := by
  unfold wpX_degree
  refine jq_isC (fun n => br_t rfl (hn (fun z => n z.1))) (fun hC => br_f jq_10 (jq_isN (fun n => br_t rfl (hn (fun z => n z.2))) (fun hI => br_f jq_10 ?_)))
  obtain ⟨k, hk, ec⟩ := jq_c2o hC
  have g0 := h0 k hk ec hI
  have g1 := h1 k hk ec hI
  clear h0 h1
  subst ec
  rcases hP k hk with h | h
  · exact ⟨8, jq_dgt hk (Or.inl h) 0 (g0 h) 7 0 rfl (fun z => absurd (h.symm.trans z) jq_01)⟩
  · have h1 := g1 h
    have hcl : (nI (k * 7)).toNatClampNeg = k * 7 := nI_clamp (by omega)
    refine ⟨8, br_f (show ¬ (7 : Int32) ≤ 0 by decide) (jq_has k 0 rfl rfl hk (by omega) (Or.inr h) (fun z => absurd ⟨h, rfl⟩ z) (fun _ => br_f jq_10 (nm_r (e' := nI (k * 7)) (jq_ix7 k 0) ⟨pk_in (k * 7) 14 (by omega), ?_⟩)))⟩
    rw [hcl]
    refine br_c (fun e => ?_) (fun e => ⟨pk_in (k * 7) 14 (by omega), ?_⟩)
    · rw [if_pos e] at h1
      exact jq_dg75 hk (jq_dgt hk (Or.inr h) _ h1 6 1 rfl (fun _ => by omega))
    · rw [if_neg e] at h1
      refine br_c (fun e3 => ?_) (fun e3 => ?_)
      · rw [show jq_ib (a3 (k * 7)) i = 1 from if_pos e3] at h1
        exact jq_dg75 hk (jq_dgt hk (Or.inr h) _ h1 6 1 rfl (fun _ => by omega))
      · rw [show jq_ib (a3 (k * 7)) i = 0 from if_neg e3] at h1
        exact jq_dg75 hk (jq_dgt hk (Or.inr h) _ h1 6 1 rfl (fun _ => by omega))
theorem jq_devices {post : Int32 → Prop} {c : Int32} (h0 : ¬ (c = 0 ∨ c = 1) → post 0) (h1 : ∀ k, k < 2 → c = nI k → post (a1 k)) : wpX_devices post (q1, q2, q3, q4, q5, a1, a2, a3, a4, a5, a6, a7, a8, a9, a10, a11) c := by
  unfold wpX_devices
  refine jq_isC (fun n => br_t rfl (h0 n)) (fun hC => br_f jq_10 ?_)
  obtain ⟨k, hk, ec⟩ := jq_c2o hC
  have g1 := h1 k hk ec
  clear h1
  subst ec
  exact ⟨pk_in k 2 hk, by rw [nI_clamp (show k < 2 ^ 31 by omega)]; exact g1⟩
/-! match, surplus -/
/-- no name, or just one -/
def jq_nm (a6 : Nat → Int32) (same : Prop) : Prop := (same ∧ ∀ p, p < 12 → a6 p = -1) ∨ (¬ same ∧ ∃ k j : Nat, k < 2 ∧ j < 6 ∧ a6 (k * 6 + j) ≠ -1 ∧ ∀ p, p < 12 → p ≠ k * 6 + j → a6 p = -1)
def jq_de (a1 : Nat → Int32) : Prop := (a1 0 = 0 ∧ a1 1 = 0) ∨ (a1 0 = 1 ∧ a1 1 = 0) ∨ (a1 0 = 0 ∧ a1 1 = 1)
theorem jq_match {post : Int32 → St2 → Prop} {same : Prop} (hD : ∀ c, c < 2 → jq_D a1 a2 a3 a4 a5 c) (hn : jq_nm a6 same) (he : jq_de a1)
    (h1 : same → a1 0 = 0 → a1 1 = 0 → ∀ z b7 b8 b9 b10 b11, post 1 (0, 1, -1, q4, z, a1, a2, a3, a4, a5, a6, b7, b8, b9, b10, b11))
    (h0 : ¬ (same ∧ a1 0 = 0 ∧ a1 1 = 0) → ∀ z b7 b8 b9 b10 b11, post 0 (0, 1, -1, q4, z, a1, a2, a3, a4, a5, a6, b7, b8, b9, b10, b11)) : wpX_match post (q1, q2, q3, q4, q5, a1, a2, a3, a4, a5, a6, a7, a8, a9, a10, a11) := by
  rcases he with ⟨e0, e1⟩ | he
  · rcases hn with ⟨hs, hn⟩ | ⟨hs, k, j, hk, hj, hne, hn⟩
    · exact jq_matchT hD e0 e1 hn (h1 hs e0 e1)
    · refine jq_matchF hD ?_ (h0 (fun z => hs z.1) 0)
      have : k = 0 ∨ k = 1 := by omega
      rcases this with rfl | rfl
      · rw [Nat.zero_mul, Nat.zero_add] at hne
        exact jq_no_n0 hj hne (fun j' hj' => hn (6 + j') (by omega) (by omega))
      · rw [Nat.one_mul] at hne
        exact jq_no_n1 hj hne (fun j' hj' => hn j' (by omega) (by omega))
  · refine jq_matchF hD (jq_no_dev hD he) (h0 (fun z => ?_) 0)
    rcases he with he | he
    · exact jq_01 (z.2.1.symm.trans he.1)
    · exact jq_01 (z.2.2.symm.trans he.2)
end
theorem jq_surt {post : Int32 → St2 → Prop} : ∀ k d : Nat, d + k = 7 → ∀ {q1 q2 q3 q4 q5 : Int32} {a1 a2 a3 a4 a5 a6 a7 a8 a9 a10 a11 : Nat → Int32}, (a1 0 = 0 ∨ a1 0 = 1) → (a1 0 = 1 → 0 < d) → post (-1) (q1, q2, q3, q4, q5, a1, a2, a3, a4, a5, a6, a7, a8, a9, a10, a11) → wX_surplus_2 post (k + 1) (nI d) q1 q2 q3 q4 q5 a1 a2 a3 a4 a5 a6 a7 a8 a9 a10 a11 := by
  intro k
  induction k with
  | zero =>
    intro d hd
    intros
    exact pk_le 7 d (fun _ => by assumption) (fun z => absurd z (by omega))
  | succ k ih =>
    intro d hd
    intro q1 q2 q3 q4 q5 a1 a2 a3 a4 a5 a6 a7 a8 a9 a10 a11 hP h0 hp
    exact pk_le 7 d (fun z => absurd z (by omega)) (fun _ => jq_has 0 d rfl rfl (by omega) (by omega) hP
      (fun _ => br_t rfl (nm_r (nI_1 d) (ih (d + 1) (by omega) hP (fun _ => by omega) hp)))
      (fun z => absurd (h0 z.1) (by omega)))
section
variable {q1 q2 q3 q4 q5 : Int32} {a1 a2 a3 a4 a5 a6 a7 a8 a9 a10 a11 : Nat → Int32}
theorem jq_surplus {post : Int32 → St2 → Prop} {same : Prop} (hD : ∀ c, c < 2 → jq_D a1 a2 a3 a4 a5 c) (hn : jq_nm a6 same) (he : jq_de a1)
    (h1 : same → a1 0 = 1 → ∀ z1 z2 z3 z5 b1 b7 b8 b9 b10 b11, b1 0 = a1 0 → b1 1 = a1 1 → post 0 (z1, z2, z3, q4, z5, b1, a2, a3, a4, a5, a6, b7, b8, b9, b10, b11))
    (h0 : ¬ (same ∧ a1 0 = 1) → ∀ z1 z2 z3 z5 b1 b7 b8 b9 b10 b11, b1 0 = a1 0 → b1 1 = a1 1 → post (-1) (z1, z2, z3, q4, z5, b1, a2, a3, a4, a5, a6, b7, b8, b9, b10, b11)) : wpX_surplus post (q1, q2, q3, q4, q5, a1, a2, a3, a4, a5, a6, a7, a8, a9, a10, a11) := by
  rcases jq_D_P (hD 0 (by omega)) with e | e
  · exact ⟨8, jq_surt 7 0 rfl (Or.inl e) (fun z => absurd (e.symm.trans z) jq_01) (h0 (fun z => jq_01 (e.symm.trans z.2)) _ _ _ _ _ _ _ _ _ _ rfl rfl)⟩
  · have e1 : a1 1 = 0 := by
      rcases he with he | he | he
      · exact he.2
      · exact he.2
      · exact absurd (he.1.symm.trans e) jq_01
    have u0 : upd a1 0 0 0 = 0 := pk_us
    have u1 : upd a1 0 0 1 = 0 := (pk_un (by omega)).trans e1
    have hD' : ∀ c, c < 2 → jq_D (upd a1 0 0) a2 a3 a4 a5 c := fun c hc => Or.inl (co_2 (P := fun c => upd a1 0 0 c = 0) u0 u1 hc)
    have w0 : upd (upd a1 0 0) 0 1 0 = a1 0 := pk_us.trans e.symm
    have w1 : upd (upd a1 0 0) 0 1 1 = a1 1 := (pk_un (by omega)).trans (pk_un (by omega))
    refine ⟨8, br_f (show ¬ (7 : Int32) ≤ 0 by decide) (jq_has 0 0 rfl rfl (by omega) (by omega) (Or.inr e) (fun z => absurd ⟨e, rfl⟩ z) (fun _ => br_f jq_10 (nm_r (e' := 1) e (nm_r (e' := upd a1 0 0) (by rfl) (jq_match hD' hn (Or.inl ⟨u0, u1⟩) (fun hs _ _ z b7 b8 b9 b10 b11 => ?_) (fun hs z b7 b8 b9 b10 b11 => ?_))))))⟩
    · exact nm_r (e' := upd (upd a1 0 0) 0 1) (by rfl) (br_f jq_10 (h1 hs e _ _ _ _ _ _ _ _ _ _ w0 w1))
    · exact nm_r (e' := upd (upd a1 0 0) 0 1) (by rfl) (br_t rfl (nm_r (nI_1 0) (jq_surt 6 1 rfl (Or.inr (w0.trans e)) (fun _ => by omega) (h0 (fun t => hs ⟨t.1, u0, u1⟩) _ _ _ _ _ _ _ _ _ _ w0 w1))))
end
end
section
/-! the law's own checks, behind its calls -/
def jq_B (P : Prop) (x : Int32) : Prop := (P ∧ x = 1) ∨ (¬ P ∧ x = 0)
theorem jq_B1 {P : Prop} (h : P) : jq_B P 1 := Or.inl ⟨h, rfl⟩
theorem jq_B0 {P : Prop} (h : ¬ P) : jq_B P 0 := Or.inr ⟨h, rfl⟩
theorem jq_B_c {P A B : Prop} {x : Int32} (h : jq_B P x) (f : ¬ P → A) (g : P → B) : (x = 0 → A) ∧ (¬ x = 0 → B) := by
  rcases h with ⟨h, e⟩ | ⟨h, e⟩
  · rw [e]
    exact br_f jq_10 (g h)
  · rw [e]
    exact br_t rfl (f h)
theorem jq_nn {x m : Int32} {A B : Prop} (n : Nat) (hm : m = nI n) (hn : n + 1 < 2 ^ 31) (f : ¬ jq_N (n + 1) x → A) (g : jq_N (n + 1) x → B) : (x < 0 → A) ∧ (¬ x < 0 → ((m < x → A) ∧ (¬ m < x → B))) := by
  subst hm
  rcases pk_ix x hn with h | h | ⟨j, hj, e⟩
  · refine br_t h (f (fun ⟨j, hj, e⟩ => ?_))
    rw [e] at h
    exact nI_pos (by omega) h
  · have hN : ¬ jq_N (n + 1) x := fun ⟨j, hj, e⟩ => by
      rw [e] at h
      exact nI_ge hj hn h
    exact br_c (fun _ => f hN) (fun _ => br_t (Int32.lt_of_lt_of_le (nI_lt (by omega) hn) h) (f hN))
  · have hg := g ⟨j, hj, e⟩
    subst e
    exact br_f (nI_pos (by omega)) (br_f (nI_nlt (by omega) (by omega)) hg)
def jq_F (C G I S : Prop) (x0 x4 x6 x7 x8 x9 x10 x11 due : Int32) : Prop :=
  ((G → x6 = 0) ∧ (¬ G → x6 = -1)) ∧ ((S → x7 = 1) ∧ (¬ S → x7 = 0)) ∧ ((¬ (C ∧ I) → x8 = -1) ∧ (C ∧ I → ¬ G → x8 = 0) ∧ (C ∧ I → G → x8 = due)) ∧
  (((¬ S ∨ x4 = -1) ∧ ¬ G → x9 = 1) ∧ (¬ ((¬ S ∨ x4 = -1) ∧ ¬ G) → x9 = 0)) ∧
  (((¬ S ∨ x4 = -1) ∧ G ∧ x0 = 0 → x10 = 0) ∧ (¬ ((¬ S ∨ x4 = -1) ∧ G ∧ x0 = 0) → x10 = -1)) ∧ ((G → x11 = 1) ∧ (¬ G → x11 = 0))
section
variable {post : Int32 → St0 → Prop} {mc ms kc ks : Nat} {C G I S E : Prop} {x0 x1 x2 x3 x4 x6 x7 x8 x9 x10 x11 x12 x13 x14 x15 x16 x17 x18 x19 x20 z0 z1 due : Int32}
theorem jq_l344 (hp : post 1 ()) (hG : jq_B G x16) (fa : (G → x11 = 1) ∧ (¬ G → x11 = 0)) (e : z1 = z0) : wL_lawOf_344 post mc ms x11 x16 z0 z1 kc ks :=
  br_t e (jq_B_c hG (fun n => br_t (fa.2 n) hp) (fun g => br_t (fa.1 g) hp))
theorem jq_l320 (hp : post 1 ()) (hG : jq_B G x16) (hE : jq_B E x20) (fa : (G → x11 = 1) ∧ (¬ G → x11 = 0)) (fs : (E ∧ G ∧ x0 = 0 → x10 = 0) ∧ (¬ (E ∧ G ∧ x0 = 0) → x10 = -1)) (e : z1 = z0) : wL_lawOf_320 post mc ms x0 x10 x11 x16 x20 z0 z1 kc ks :=
  br_t e (jq_B_c hE (fun n => jq_l344 hp hG fa (fs.2 (fun z => n z.1))) (fun h => jq_B_c hG (fun n => jq_l344 hp hG fa (fs.2 (fun z => n z.2.1))) (fun g => br_c (fun e0 => jq_l344 hp hG fa (fs.1 ⟨h, g, e0⟩)) (fun n0 => jq_l344 hp hG fa (fs.2 (fun z => n0 z.2.2))))))
theorem jq_l300 (hp : post 1 ()) (hG : jq_B G x16) (hE : jq_B E x20) (fa : (G → x11 = 1) ∧ (¬ G → x11 = 0)) (fs : (E ∧ G ∧ x0 = 0 → x10 = 0) ∧ (¬ (E ∧ G ∧ x0 = 0) → x10 = -1)) (fm : (E ∧ ¬ G → x9 = 1) ∧ (¬ (E ∧ ¬ G) → x9 = 0)) (e : z1 = z0) : wL_lawOf_300 post mc ms x0 x9 x10 x11 x16 x20 z0 z1 kc ks :=
  br_t e (jq_B_c hE (fun n => jq_l320 hp hG hE fa fs (fm.2 (fun z => n z.1))) (fun h => jq_B_c hG (fun n => jq_l320 hp hG hE fa fs (fm.1 ⟨h, n⟩)) (fun g => jq_l320 hp hG hE fa fs (fm.2 (fun z => z.2 g)))))
theorem jq_l272 (hp : post 1 ()) (hC : jq_B C x12) (hI : jq_B I x17) (hG : jq_B G x16) (hE : jq_B E x20) (fa : (G → x11 = 1) ∧ (¬ G → x11 = 0)) (fs : (E ∧ G ∧ x0 = 0 → x10 = 0) ∧ (¬ (E ∧ G ∧ x0 = 0) → x10 = -1)) (fm : (E ∧ ¬ G → x9 = 1) ∧ (¬ (E ∧ ¬ G) → x9 = 0))
    (fd : (¬ (C ∧ I) → x8 = -1) ∧ (C ∧ I → x8 = x19)) (fn : x7 = x18) (e : z1 = z0) : wL_lawOf_272 post mc ms x0 x7 x8 x9 x10 x11 x12 x16 x17 x18 x19 x20 z0 z1 kc ks :=
  br_t e (br_t fn (jq_B_c hC (fun n => jq_l300 hp hG hE fa fs fm (fd.1 (fun z => n z.1))) (fun c => jq_B_c hI (fun n => jq_l300 hp hG hE fa fs fm (fd.1 (fun z => n z.2))) (fun i => jq_l300 hp hG hE fa fs fm (fd.2 ⟨c, i⟩)))))
theorem jq_l258 (hp : post 1 ()) (hC : jq_B C x12) (hI : jq_B I x17) (hG : jq_B G x16) (hE : jq_B E z0) (fa : (G → x11 = 1) ∧ (¬ G → x11 = 0)) (fs : (E ∧ G ∧ x0 = 0 → x10 = 0) ∧ (¬ (E ∧ G ∧ x0 = 0) → x10 = -1)) (fm : (E ∧ ¬ G → x9 = 1) ∧ (¬ (E ∧ ¬ G) → x9 = 0))
    (fd : (¬ (C ∧ I) → x8 = -1) ∧ (C ∧ I → x8 = x19)) (fn : x7 = x18) (fg : (G → x6 = 0) ∧ (¬ G → x6 = -1)) : wL_lawOf_258 post mc ms x0 x6 x7 x8 x9 x10 x11 x12 x16 x17 x18 x19 z0 kc ks :=
  jq_B_c hG (fun n => jq_l272 hp hC hI hG hE fa fs fm fd fn (fg.2 n)) (fun g => jq_l272 hp hC hI hG hE fa fs fm fd fn (fg.1 g))
theorem jq_l240 (hp : post 1 ()) (hC : jq_B C x12) (hI : jq_B I x17) (hG : jq_B G x16) (hS : jq_B S x18) (hF : jq_F C G I S x0 x4 x6 x7 x8 x9 x10 x11 due) (hd : C ∧ I → x8 = z0) : wL_lawOf_240 post mc ms x0 x4 x6 x7 x8 x9 x10 x11 x12 x16 x17 x18 z0 kc ks := by
  obtain ⟨fg, fn, fd, fm, fs, fa⟩ := hF
  have fn' : x7 = x18 := by
    rcases hS with ⟨h, e⟩ | ⟨h, e⟩
    · rw [e, fn.1 h]
    · rw [e, fn.2 h]
  exact jq_B_c hS (fun n => jq_l258 hp hC hI hG (jq_B1 (Or.inl n)) fa fs fm ⟨fd.1, hd⟩ fn' fg) (fun s => br_c (fun e => jq_l258 hp hC hI hG (jq_B1 (Or.inr e)) fa fs fm ⟨fd.1, hd⟩ fn' fg) (fun n => jq_l258 hp hC hI hG (jq_B0 (fun z => z.elim (fun t => t s) n)) fa fs fm ⟨fd.1, hd⟩ fn' fg))
theorem jq_l218 (H : ∀ z, z = (z1 + z0) + (if x1 = 2 then 0 else jq_ib x13 x3) → wL_lawOf_240 post mc ms x0 x4 x6 x7 x8 x9 x10 x11 x12 x16 x17 x18 z kc ks) :
    wL_lawOf_218 post mc ms x0 x1 x3 x4 x6 x7 x8 x9 x10 x11 x12 x13 x16 x17 x18 z0 z1 kc ks :=
  br_c (fun e => H _ (by rw [if_pos e])) (fun n => br_c (fun e => H _ (by rw [if_neg n, show jq_ib x13 x3 = 1 from if_pos e])) (fun n' => H _ (by rw [if_neg n, show jq_ib x13 x3 = 0 from if_neg n'])))
theorem jq_l207 (H : ∀ z, z = (z0 + jq_ib x15 x3) + (if x1 = 2 then 0 else jq_ib x13 x3) → wL_lawOf_240 post mc ms x0 x4 x6 x7 x8 x9 x10 x11 x12 x16 x17 x18 z kc ks) :
    wL_lawOf_207 post mc ms x0 x1 x3 x4 x6 x7 x8 x9 x10 x11 x12 x13 x15 x16 x17 x18 z0 kc ks :=
  br_c (fun e => jq_l218 (fun z ez => H z (by rw [ez, show jq_ib x15 x3 = 1 from if_pos e]))) (fun e => jq_l218 (fun z ez => H z (by rw [ez, show jq_ib x15 x3 = 0 from if_neg e])))
theorem jq_l184 (hp : post 1 ()) (hC : jq_B C x12) (hI : jq_B I x17) (hG : jq_B G x16) (hS : jq_B S z0) (hF : jq_F C G I S x0 x4 x6 x7 x8 x9 x10 x11 due) (hdue : due = (jq_ib x14 x3 + jq_ib x15 x3) + (if x1 = 2 then 0 else jq_ib x13 x3)) :
    wL_lawOf_184 post mc ms x0 x1 x3 x4 x6 x7 x8 x9 x10 x11 x12 x13 x14 x15 x16 x17 z0 kc ks :=
  jq_B_c hG (fun n => jq_l240 hp hC hI hG hS hF (fun z => hF.2.2.1.2.1 z n)) (fun g => jq_B_c hI (fun n => jq_l240 hp hC hI hG hS hF (fun z => absurd z.2 n))
    (fun i => br_c (fun e => jq_l207 (fun z ez => jq_l240 hp hC hI hG hS hF (fun ci => by rw [hF.2.2.1.2.2 ci g, hdue, ez, show jq_ib x14 x3 = 1 from if_pos e])))
      (fun e => jq_l207 (fun z ez => jq_l240 hp hC hI hG hS hF (fun ci => by rw [hF.2.2.1.2.2 ci g, hdue, ez, show jq_ib x14 x3 = 0 from if_neg e])))))
theorem jq_l155 (hp : post 1 ()) (hC : jq_B C x12) (hI : jq_B I z0) (hG : jq_B G x16) (hF : jq_F C G I (C ∧ I ∧ ¬ x4 < -1 ∧ x4 ≤ 3) x0 x4 x6 x7 x8 x9 x10 x11 due) (hdue : due = (jq_ib x14 x3 + jq_ib x15 x3) + (if x1 = 2 then 0 else jq_ib x13 x3)) :
    wL_lawOf_155 post mc ms x0 x1 x3 x4 x6 x7 x8 x9 x10 x11 x12 x13 x14 x15 x16 z0 kc ks :=
  jq_B_c hC (fun n => jq_l184 hp hC hI hG (jq_B0 (fun z => n z.1)) hF hdue) (fun c => jq_B_c hI (fun n => jq_l184 hp hC hI hG (jq_B0 (fun z => n z.2.1)) hF hdue) (fun i => br_c (fun e => jq_l184 hp hC hI hG (jq_B0 (fun z => z.2.2.1 e)) hF hdue)
    (fun e => br_c (fun e3 => jq_l184 hp hC hI hG (jq_B0 (fun z => Int32.not_le.mpr e3 z.2.2.2)) hF hdue) (fun e3 => jq_l184 hp hC hI hG (jq_B1 ⟨c, i, e, Int32.not_lt.mp e3⟩) hF hdue))))
theorem jq_l139 (hp : post 1 ()) (hC : jq_B C x12) (hG : jq_B G z0) (hF : jq_F C G (jq_N 6 x3) (C ∧ jq_N 6 x3 ∧ ¬ x4 < -1 ∧ x4 ≤ 3) x0 x4 x6 x7 x8 x9 x10 x11 due) (hdue : due = (jq_ib x14 x3 + jq_ib x15 x3) + (if x1 = 2 then 0 else jq_ib x13 x3)) :
    wL_lawOf_139 post mc ms x0 x1 x3 x4 x6 x7 x8 x9 x10 x11 x12 x13 x14 x15 z0 kc ks :=
  jq_nn 5 rfl (by omega) (fun n => jq_l155 hp hC (jq_B0 n) hG hF hdue) (fun i => jq_l155 hp hC (jq_B1 i) hG hF hdue)
theorem jq_mask (x : Int32) : ¬ (x &&& 7) < 0 := by
  obtain ⟨j, hj, e⟩ := pk_andE x (m := 7) 3 (by decide)
  rw [e]
  exact nI_pos (by omega)
theorem jq_l75 (hp : post 1 ()) (hC : jq_B (x0 = 0 ∨ x0 = 1) z0) (hF : jq_F (x0 = 0 ∨ x0 = 1) (jq_G x0 x1 x2) (jq_N 6 x3) (jq_SE x0 x3 x4) x0 x4 x6 x7 x8 x9 x10 x11 due)
    (hdue : due = (jq_ib ((x2 >>> ((3 : Int32) &&& 31)) &&& 7) x3 + jq_ib (x2 >>> ((6 : Int32) &&& 31)) x3) + (if x1 = 2 then 0 else jq_ib (x2 &&& 7) x3)) :
    wL_lawOf_75 post mc ms x0 x1 x2 x3 x4 x6 x7 x8 x9 x10 x11 z0 kc ks :=
  nm_e (nm_e (nm_e (jq_B_c hC (fun n => jq_l139 hp hC (jq_B0 (fun z => n z.1)) hF hdue) (fun c =>
    jq_nn 2 rfl (by omega) (fun n => jq_l139 hp hC (jq_B0 (fun z => n z.2.1)) hF hdue) (fun t =>
      (jq_nn 5 rfl (by omega) (fun n => jq_l139 hp hC (jq_B0 (fun z => n z.2.2.1)) hF hdue) (fun g =>
        (jq_nn 5 rfl (by omega) (fun n => jq_l139 hp hC (jq_B0 (fun z => n z.2.2.2.1)) hF hdue) (fun x =>
          jq_nn 5 rfl (by omega) (fun n => jq_l139 hp hC (jq_B0 (fun z => n z.2.2.2.2)) hF hdue) (fun y => jq_l139 hp hC (jq_B1 ⟨c, t, g, x, y⟩) hF hdue))).2 (jq_mask _))).2 (jq_mask _))))))
end
end
section
/-! the law's calls as relations, and the law -/
/-- behind add: no device, or the one that the arguments say -/
def jq_DV (c ty nets : Int32) (a1 a2 a3 a4 a5 : Nat → Int32) : Prop :=
  (¬ jq_G c ty nets ∧ a1 0 = 0 ∧ a1 1 = 0) ∨
  (jq_G c ty nets ∧ ∃ k t g x y : Nat, k < 2 ∧ t < 3 ∧ g < 6 ∧ x < 6 ∧ y < 6 ∧ c = nI k ∧ ty = nI t ∧ nets &&& 7 = nI g ∧ (nets >>> ((3 : Int32) &&& 31)) &&& 7 = nI x ∧ nets >>> ((6 : Int32) &&& 31) = nI y ∧
    a1 k = 1 ∧ (∀ k', k' < 2 → k' ≠ k → a1 k' = 0) ∧ a2 (k * 7) = nI t ∧ a3 (k * 7) = (if t = 2 then 0 else nI g) ∧ a4 (k * 7) = nI (min x y) ∧ a5 (k * 7) = nI (max x y))
section
variable {q1 q2 q3 q4 q5 : Int32} {a1 a2 a3 a4 a5 a6 a7 a8 a9 a10 a11 : Nat → Int32} {c ty nets i nm : Int32}
theorem jq_add2 {post : Int32 → St2 → Prop} (hE : ∀ k, k < 2 → a1 k = 0)
    (H : ∀ r b1 b2 b3 b4 b5, ((jq_G c ty nets → r = 0) ∧ (¬ jq_G c ty nets → r = -1)) → jq_DV c ty nets b1 b2 b3 b4 b5 → post r (q1, q2, q3, q4, q5, b1, b2, b3, b4, b5, a6, a7, a8, a9, a10, a11)) :
    wpX_add post (q1, q2, q3, q4, q5, a1, a2, a3, a4, a5, a6, a7, a8, a9, a10, a11) c ty nets := by
  refine jq_add hE (fun n => H _ _ _ _ _ _ ⟨fun z => absurd z n, fun _ => rfl⟩ (Or.inl ⟨n, hE 0 (by omega), hE 1 (by omega)⟩)) (fun k t g x y hk ht hg hx hy ec et eg ex ey => ?_)
  have hG : jq_G c ty nets := ⟨by rw [ec]; exact jq_c2 hk, ⟨t, ht, et⟩, ⟨g, hg, eg⟩, ⟨x, hx, ex⟩, ⟨y, hy, ey⟩⟩
  exact H _ _ _ _ _ _ ⟨fun _ => rfl, fun z => absurd hG z⟩ (Or.inr ⟨hG, k, t, g, x, y, hk, ht, hg, hx, hy, ec, et, eg, ex, ey, pk_us, fun k' hk' hne => (pk_un hne).trans (hE k' hk'), pk_us, pk_us, pk_us, pk_us⟩)
theorem jq_name2 {post : Int32 → St2 → Prop} (h6 : ∀ j, j < 12 → a6 j = -1)
    (H : ∀ r b6, ((jq_SE c i nm → r = 1) ∧ (¬ jq_SE c i nm → r = 0)) → jq_nm b6 (¬ jq_SE c i nm ∨ nm = -1) → post r (q1, q2, q3, q4, q5, a1, a2, a3, a4, a5, b6, a7, a8, a9, a10, a11)) : wpX_name post (q1, q2, q3, q4, q5, a1, a2, a3, a4, a5, a6, a7, a8, a9, a10, a11) c i nm := by
  refine jq_name (fun n => H _ _ ⟨fun z => absurd z n, fun _ => rfl⟩ (Or.inl ⟨Or.inl n, h6⟩)) (fun k j hk hj ec ei e e3 => ?_)
  have hS : jq_SE c i nm := ⟨by rw [ec]; exact jq_c2 hk, ⟨j, hj, ei⟩, e, e3⟩
  refine H _ _ ⟨fun _ => rfl, fun z => absurd hS z⟩ ?_
  by_cases en : nm = -1
  · refine Or.inl ⟨Or.inr en, fun p hp => ?_⟩
    by_cases ep : p = k * 6 + j
    · rw [ep, pk_us, en]
    · rw [pk_un ep]
      exact h6 p hp
  · exact Or.inr ⟨fun z => z.elim (fun t => t hS) en, k, j, hk, hj, by rw [pk_us]; exact en, fun p hp ep => by rw [pk_un ep]; exact h6 p hp⟩
theorem jq_DV_D (h : jq_DV c ty nets a1 a2 a3 a4 a5) : ∀ d, d < 2 → jq_D a1 a2 a3 a4 a5 d := by
  intro d hd
  rcases h with ⟨_, h0, h1⟩ | ⟨_, k, t, g, x, y, hk, ht, hg, hx, hy, ec, et, eg, ex, ey, e1, eo, e2, e3, e4, e5⟩
  · exact Or.inl (co_2 (P := fun d => a1 d = 0) h0 h1 hd)
  · by_cases e : d = k
    · subst e
      refine Or.inr ⟨e1, t, if t = 2 then 0 else g, min x y, max x y, ht, ?_, by omega, by omega, e2, ?_, e4, e5⟩
      · split
        · omega
        · exact hg
      · rw [e3]
        by_cases z : t = 2
        · rw [if_pos z, if_pos z]
          rfl
        · rw [if_neg z, if_neg z]
    · exact Or.inl (eo d hd e)
theorem jq_DV_e (h : jq_DV c ty nets a1 a2 a3 a4 a5) : jq_de a1 := by
  rcases h with ⟨_, h0, h1⟩ | ⟨_, k, t, g, x, y, hk, ht, hg, hx, hy, ec, et, eg, ex, ey, e1, eo, _⟩
  · exact Or.inl ⟨h0, h1⟩
  · have : k = 0 ∨ k = 1 := by omega
    rcases this with rfl | rfl
    · exact Or.inr (Or.inl ⟨e1, eo 1 (by omega) (by omega)⟩)
    · exact Or.inr (Or.inr ⟨eo 0 (by omega) (by omega), e1⟩)
/-- circuit k holds the device just if the arguments were good and named it -/
theorem jq_DV_k (h : jq_DV c ty nets a1 a2 a3 a4 a5) {k : Nat} (hk : k < 2) : (a1 k = 0 ∧ ¬ (jq_G c ty nets ∧ c = nI k)) ∨ (a1 k = 1 ∧ jq_G c ty nets ∧ c = nI k) := by
  rcases h with ⟨n, h0, h1⟩ | ⟨hG, k', t, g, x, y, hk', ht, hg, hx, hy, ec, et, eg, ex, ey, e1, eo, _⟩
  · exact Or.inl ⟨co_2 (P := fun d => a1 d = 0) h0 h1 hk, fun z => n z.1⟩
  · by_cases e : k = k'
    · subst e
      exact Or.inr ⟨e1, hG, ec⟩
    · refine Or.inl ⟨eo k hk e, fun z => e ?_⟩
      exact ((nI_eq (by omega) (by omega)).mp (ec.symm.trans z.2)).symm
theorem jq_DV_E (h : jq_DV c ty nets a1 a2 a3 a4 a5) : (a1 0 = 0 ∧ a1 1 = 0) ↔ ¬ jq_G c ty nets := by
  constructor
  · intro z g
    obtain ⟨k, hk, ec⟩ := jq_c2o g.1
    rcases jq_DV_k h hk with ⟨_, n⟩ | ⟨e, _⟩
    · exact n ⟨g, ec⟩
    · have e0 := co_2 (P := fun d => a1 d = 0) z.1 z.2 hk
      exact jq_01 (e0.symm.trans e)
  · intro n
    have : ∀ k, k < 2 → a1 k = 0 := fun k hk => by
      rcases jq_DV_k h hk with ⟨e, _⟩ | ⟨_, g, _⟩
      · exact e
      · exact absurd g n
    exact ⟨this 0 (by omega), this 1 (by omega)⟩
theorem jq_sum3 (a b d : Int32) : ((0 + d) + a) + b = (a + b) + d := by
  rw [Int32.zero_add, Int32.add_assoc, Int32.add_comm]
theorem jq_degree2 {post : Int32 → Prop} (hv : jq_DV c ty nets a1 a2 a3 a4 a5)
    (H : ∀ r, (¬ ((c = 0 ∨ c = 1) ∧ jq_N 6 i) → r = -1) ∧ ((c = 0 ∨ c = 1) ∧ jq_N 6 i → ¬ jq_G c ty nets → r = 0) ∧ ((c = 0 ∨ c = 1) ∧ jq_N 6 i → jq_G c ty nets → r = (jq_ib ((nets >>> ((3 : Int32) &&& 31)) &&& 7) i + jq_ib (nets >>> ((6 : Int32) &&& 31)) i) + (if ty = 2 then 0 else jq_ib (nets &&& 7) i)) → post r) :
    wpX_degree post (q1, q2, q3, q4, q5, a1, a2, a3, a4, a5, a6, a7, a8, a9, a10, a11) c i := by
  refine jq_degree (fun k hk => jq_D_P (jq_DV_D hv k hk)) (fun n => H _ ⟨fun _ => rfl, fun z => absurd z n, fun z => absurd z n⟩) (fun k hk ec hI e1 => ?_) (fun k hk ec hI e1 => ?_)
  · have hC : c = 0 ∨ c = 1 := by rw [ec]; exact jq_c2 hk
    refine H _ ⟨fun z => absurd ⟨hC, hI⟩ z, fun _ _ => rfl, fun _ g => ?_⟩
    rcases jq_DV_k hv hk with ⟨_, n⟩ | ⟨e, _⟩
    · exact absurd ⟨g, ec⟩ n
    · exact absurd (e1.symm.trans e) jq_01
  · have hC : c = 0 ∨ c = 1 := by rw [ec]; exact jq_c2 hk
    have hG : jq_G c ty nets := by
      rcases jq_DV_k hv hk with ⟨e, _⟩ | ⟨_, g, _⟩
      · exact absurd (e.symm.trans e1) jq_01
      · exact g
    refine H _ ⟨fun z => absurd ⟨hC, hI⟩ z, fun _ n => absurd hG n, fun _ _ => ?_⟩
    rcases hv with ⟨n, _⟩ | ⟨_, k', t, g, x, y, hk', ht, hg, hx, hy, ec', et, eg, ex, ey, _, _, e2, e3, e4, e5⟩
    · exact absurd hG n
    · have ek : k = k' := (nI_eq (by omega) (by omega)).mp (ec.symm.trans ec')
      subst ek
      rw [e2, e3, e4, e5, et, eg, ex, ey]
      have eq : (if nI t = 2 then (0 : Int32) else jq_ib (if t = 2 then 0 else nI g) i) = (if nI t = 2 then 0 else jq_ib (nI g) i) := by
        by_cases z : t = 2
        · subst z
          rfl
        · have z' : ¬ nI t = 2 := fun e => z ((nI_eq (b := 2) (by omega) (by omega)).mp e)
          rw [if_neg z', if_neg z', if_neg z]
      rw [eq]
      rcases Nat.le_total x y with z | z
      · rw [show min x y = x by omega, show max x y = y by omega, jq_sum3]
      · rw [show min x y = y by omega, show max x y = x by omega, jq_sum3, Int32.add_comm (jq_ib (nI y) i)]
theorem jq_match2 {post : Int32 → St2 → Prop} {same : Prop} (hv : jq_DV c ty nets a1 a2 a3 a4 a5) (hn : jq_nm a6 same)
    (H : ∀ r, (same ∧ ¬ jq_G c ty nets → r = 1) ∧ (¬ (same ∧ ¬ jq_G c ty nets) → r = 0) → ∀ z1 z2 z3 z5 b7 b8 b9 b10 b11, post r (z1, z2, z3, q4, z5, a1, a2, a3, a4, a5, a6, b7, b8, b9, b10, b11)) : wpX_match post (q1, q2, q3, q4, q5, a1, a2, a3, a4, a5, a6, a7, a8, a9, a10, a11) :=
  jq_match (jq_DV_D hv) hn (jq_DV_e hv) (fun hs h0 h1 z b7 b8 b9 b10 b11 => H _ ⟨fun _ => rfl, fun n => absurd ⟨hs, (jq_DV_E hv).mp ⟨h0, h1⟩⟩ n⟩ _ _ _ _ _ _ _ _ _)
    (fun n z b7 b8 b9 b10 b11 => H _ ⟨fun t => absurd ⟨t.1, (jq_DV_E hv).mpr t.2⟩ n, fun _ => rfl⟩ _ _ _ _ _ _ _ _ _)
theorem jq_surplus2 {post : Int32 → St2 → Prop} {same : Prop} (hv : jq_DV c ty nets a1 a2 a3 a4 a5) (hn : jq_nm a6 same)
    (H : ∀ r, (same ∧ jq_G c ty nets ∧ c = 0 → r = 0) ∧ (¬ (same ∧ jq_G c ty nets ∧ c = 0) → r = -1) → ∀ z1 z2 z3 z5 b1 b7 b8 b9 b10 b11, b1 0 = a1 0 → b1 1 = a1 1 → post r (z1, z2, z3, q4, z5, b1, a2, a3, a4, a5, a6, b7, b8, b9, b10, b11)) : wpX_surplus post (q1, q2, q3, q4, q5, a1, a2, a3, a4, a5, a6, a7, a8, a9, a10, a11) := by
  have hk := jq_DV_k hv (k := 0) (by omega)
  refine jq_surplus (jq_DV_D hv) hn (jq_DV_e hv) (fun hs e => ?_) (fun n => ?_)
  · have hg : jq_G c ty nets ∧ c = nI 0 := by
      rcases hk with ⟨e', _⟩ | ⟨_, g⟩
      · exact absurd (e'.symm.trans e) jq_01
      · exact g
    exact H _ ⟨fun _ => rfl, fun n => absurd ⟨hs, hg.1, hg.2⟩ n⟩
  · refine H _ ⟨fun z => ?_, fun _ => rfl⟩
    rcases hk with ⟨_, n'⟩ | ⟨e, _⟩
    · exact absurd ⟨z.2.1, z.2.2⟩ n'
    · exact absurd ⟨z.1, e⟩ n
theorem jq_devices2 {post : Int32 → Prop} {b1 : Nat → Int32} (hv : jq_DV c ty nets b1 a2 a3 a4 a5) (e0 : a1 0 = b1 0) (e1 : a1 1 = b1 1)
    (H : ∀ r, (jq_G c ty nets → r = 1) ∧ (¬ jq_G c ty nets → r = 0) → post r) : wpX_devices post (q1, q2, q3, q4, q5, a1, a2, a3, a4, a5, a6, a7, a8, a9, a10, a11) c := by
  refine jq_devices (fun n => H _ ⟨fun g => absurd g.1 n, fun _ => rfl⟩) (fun k hk ec => ?_)
  have e : a1 k = b1 k := co_2 (P := fun k => a1 k = b1 k) e0 e1 hk
  rcases jq_DV_k hv hk with ⟨z, n⟩ | ⟨z, g, _⟩
  · exact H _ ⟨fun g => absurd ⟨g, ec⟩ n, fun _ => e.trans z⟩
  · exact H _ ⟨fun _ => e.trans z, fun n => absurd g n⟩
end
theorem jq_lawOf {post : Int32 → St0 → Prop} (hp : post 1 ()) (c ty nets i nm : Int32) : wpL_lawOf post 12 130 () c ty nets i nm := by
  refine ⟨by decide, by decide, 11, 114, by decide, by decide, jq_init (fun b6 h6 => jq_add2 (fun k hk => rfl) (fun r1 b1 b2 b3 b4 b5 f1 hv => jq_name2 h6 (fun r2 c6 f2 hn => jq_degree2 hv (fun r3 f3 => jq_match2 hv hn (fun r4 f4 z1 z2 z3 z5 b7 b8 b9 b10 b11 => jq_surplus2 hv hn (fun r5 f5 y1 y2 y3 y5 d1 d7 d8 d9 d10 d11 e0 e1 => jq_devices2 hv e0 e1 (fun r6 f6 => ?_)))))))⟩
  have hF := (⟨f1, f2, f3, f4, f5, f6⟩ : jq_F (c = 0 ∨ c = 1) (jq_G c ty nets) (jq_N 6 i) (jq_SE c i nm) c nm r1 r2 r3 r4 r5 r6 _)
  exact br_c (fun e => jq_l75 hp (jq_B1 (Or.inl e)) hF rfl) (fun n => br_c (fun e => jq_l75 hp (jq_B1 (Or.inr e)) hF rfl) (fun n' => jq_l75 hp (jq_B0 (fun z => z.elim n n')) hF rfl))
theorem jq_cell {post : Int32 → Prop} {L : Nat} {xs : Nat → Int32} {p : Int32} (k : Nat) (hk : k < 5) (hp : p = nI k) (hL : L ≤ 5) (H : ∀ r, post r) : wpL_cellAt post L xs () p := by
  subst hp
  exact pk_le L k (fun _ => H _) (fun z => ⟨pk_in k L z, H _⟩)
theorem i_vc (xs : Nat → Int32) (L : Nat) (hL : L ≤ 5) : wpL_law (fun r => r = 1) L xs :=
  jq_cell 0 (by omega) rfl hL (fun r1 => jq_cell 1 (by omega) rfl hL (fun r2 => jq_cell 2 (by omega) rfl hL (fun r3 => jq_cell 3 (by omega) rfl hL (fun r4 => jq_cell 4 (by omega) rfl hL (fun r5 =>
    ⟨12, 130, by decide, by decide, jq_lawOf (post := fun r _ => r = 1) rfl r1 r2 r3 r4 r5⟩)))))
end
