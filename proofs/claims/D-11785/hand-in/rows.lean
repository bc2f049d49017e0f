section
/-! packed arrays of bytes, masks, small facts about Int32 -/
noncomputable def fw_if (c x y : Bool) : Bool := @Bool.rec (fun _ => Bool) y x c
def fw_g (A i : Nat) : Nat := Nat.land (Nat.shiftRight A (Nat.mul 8 i)) 255
def fw_s (A i v : Nat) : Nat := Nat.xor A (Nat.shiftLeft (Nat.xor (fw_g A i) v) (Nat.mul 8 i))
def fw_b (M j : Nat) : Nat := Nat.land (Nat.shiftRight M j) 1
def fw_on (M j : Nat) : Nat := Nat.lor M (Nat.shiftLeft 1 j)
def fw_off (M j : Nat) : Nat := Nat.xor M (Nat.land M (Nat.shiftLeft 1 j))
theorem fw_ifE {c x y : Bool} (h : fw_if c x y = true) : (c = true ∧ x = true) ∨ (c = false ∧ y = true) := by
  cases c
  · exact Or.inr ⟨rfl, h⟩
  · exact Or.inl ⟨rfl, h⟩
theorem fw_ifA {c x : Bool} (h : fw_if c x false = true) : c = true ∧ x = true := by
  cases c
  · exact absurd (show false = true from h) (by decide)
  · exact ⟨rfl, h⟩
theorem fw_ifN {c x : Bool} (h : fw_if c false x = true) : c = false ∧ x = true := by
  cases c
  · exact ⟨rfl, h⟩
  · exact absurd (show false = true from h) (by decide)
theorem fw_le {a b : Nat} (h : Nat.ble a b = true) : a ≤ b := Nat.le_of_ble_eq_true h
theorem fw_gt {a b : Nat} (h : Nat.ble a b = false) : b < a := by
  rcases Nat.lt_or_ge b a with z | z
  · exact z
  · rw [Nat.ble_eq_true_of_le z] at h
    exact absurd h (by decide)
theorem fw_eq {a b : Nat} (h : Nat.beq a b = true) : a = b := Nat.eq_of_beq_eq_true h
theorem fw_ne {a b : Nat} (h : Nat.beq a b = false) : a ≠ b := Nat.ne_of_beq_eq_false h
theorem fw_g_lt (A i : Nat) : fw_g A i < 256 := by
  show (A >>> (8 * i)) &&& 255 < 2 ^ 8
  exact Nat.and_lt_two_pow _ (by decide)
theorem fw_g_bit (A i j : Nat) : (fw_g A i).testBit j = (decide (j < 8) && A.testBit (8 * i + j)) := by
  show ((A >>> (8 * i)) &&& (2 ^ 8 - 1)).testBit j = _
  rw [Nat.testBit_and, Nat.testBit_shiftRight, Nat.testBit_two_pow_sub_one, Bool.and_comm]
theorem fw_big {v : Nat} (h : v < 256) {j : Nat} (hj : 8 ≤ j) : v.testBit j = false := by
  apply Nat.testBit_lt_two_pow
  exact Nat.lt_of_lt_of_le (show v < 2 ^ 8 from h) (Nat.pow_le_pow_right (by decide) hj)
theorem fw_s_bit (A i v j : Nat) : (fw_s A i v).testBit j = (A.testBit j ^^ (decide (j ≥ 8 * i) && ((fw_g A i).testBit (j - 8 * i) ^^ v.testBit (j - 8 * i)))) := by
  show (A ^^^ ((fw_g A i ^^^ v) <<< (8 * i))).testBit j = _
  rw [Nat.testBit_xor, Nat.testBit_shiftLeft, Nat.testBit_xor]
theorem fw_g_s (A i : Nat) {v : Nat} (h : v < 256) : fw_g (fw_s A i v) i = v := by
  apply Nat.eq_of_testBit_eq
  intro j
  rw [fw_g_bit, fw_s_bit]
  by_cases hj : j < 8
  · rw [show 8 * i + j - 8 * i = j by omega, fw_g_bit]
    simp only [hj, decide_true, Bool.true_and, show 8 * i + j ≥ 8 * i by omega]
    cases A.testBit (8 * i + j) <;> cases v.testBit j <;> rfl
  · rw [fw_big (j := j) h (by omega)]
    simp only [hj, decide_false, Bool.false_and]
theorem fw_g_n (A i j : Nat) {v : Nat} (h : v < 256) (hn : j ≠ i) : fw_g (fw_s A i v) j = fw_g A j := by
  apply Nat.eq_of_testBit_eq
  intro b
  rw [fw_g_bit, fw_g_bit, fw_s_bit]
  by_cases hb : b < 8
  · have z : (decide (8 * j + b ≥ 8 * i) && ((fw_g A i).testBit (8 * j + b - 8 * i) ^^ v.testBit (8 * j + b - 8 * i))) = false := by
      by_cases hc : 8 * j + b ≥ 8 * i
      · have h8 : 8 ≤ 8 * j + b - 8 * i := by omega
        rw [fw_big (fw_g_lt A i) h8, fw_big h h8]
        simp
      · simp only [hc, decide_false, Bool.false_and]
    rw [z, Bool.xor_false]
  · simp only [hb, decide_false, Bool.false_and]
theorem fw_g_e (A i j : Nat) {v : Nat} (h : v < 256) : fw_g (fw_s A i v) j = if j = i then v else fw_g A j := by
  by_cases e : j = i
  · rw [if_pos e, e, fw_g_s A i h]
  · rw [if_neg e, fw_g_n A i j h e]
theorem fw_g_0 (j : Nat) : fw_g 0 j = 0 := by
  apply Nat.eq_of_testBit_eq
  intro b
  rw [fw_g_bit, Nat.zero_testBit, Bool.and_false, Nat.zero_testBit]
theorem fw_g_sh (A j : Nat) : fw_g (Nat.shiftRight A 8) j = fw_g A (j + 1) := by
  apply Nat.eq_of_testBit_eq
  intro b
  rw [fw_g_bit, fw_g_bit]
  show (decide (b < 8) && (A >>> 8).testBit (8 * j + b)) = _
  rw [Nat.testBit_shiftRight, show 8 + (8 * j + b) = 8 * (j + 1) + b by omega]
theorem fw_g_h (A : Nat) : fw_g A 0 = Nat.land A 255 := rfl
theorem fw_b_t (M j : Nat) : fw_b M j = if M.testBit j then 1 else 0 := by
  show (M >>> j) &&& 1 = _
  rw [Nat.and_one_is_mod, Nat.shiftRight_eq_div_pow, ← Nat.toNat_testBit]
  cases M.testBit j <;> rfl
theorem fw_b_2 (M j : Nat) : fw_b M j < 2 := by
  rw [fw_b_t]
  split <;> decide
theorem fw_one (i j : Nat) : (Nat.shiftLeft 1 i).testBit j = decide (j = i) := by
  show (1 <<< i).testBit j = _
  rw [Nat.testBit_shiftLeft]
  by_cases e : j = i
  · subst e
    simp
  · simp only [e, decide_false]
    by_cases g : j ≥ i
    · have : 0 < j - i := by omega
      simp only [g, decide_true, Bool.true_and]
      apply Nat.testBit_lt_two_pow
      exact Nat.one_lt_two_pow (by omega)
    · simp only [g, decide_false, Bool.false_and]
theorem fw_b_on (M i j : Nat) : fw_b (fw_on M i) j = if j = i then 1 else fw_b M j := by
  rw [fw_b_t, fw_b_t]
  have : (fw_on M i).testBit j = (M.testBit j || decide (j = i)) := by
    show (M ||| Nat.shiftLeft 1 i).testBit j = _
    rw [Nat.testBit_or, fw_one]
  rw [this]
  by_cases e : j = i
  · simp only [e, decide_true, Bool.or_true, if_true]
  · simp only [e, decide_false, Bool.or_false, if_false]
theorem fw_b_off (M i j : Nat) : fw_b (fw_off M i) j = if j = i then 0 else fw_b M j := by
  rw [fw_b_t, fw_b_t]
  have : (fw_off M i).testBit j = (M.testBit j ^^ (M.testBit j && decide (j = i))) := by
    show (M ^^^ (M &&& Nat.shiftLeft 1 i)).testBit j = _
    rw [Nat.testBit_xor, Nat.testBit_and, fw_one]
  rw [this]
  by_cases e : j = i
  · simp only [e, decide_true, Bool.and_true, Bool.xor_self, if_true]
    rfl
  · simp only [e, decide_false, Bool.and_false, Bool.xor_false, if_false]
theorem fw_b_0 (j : Nat) : fw_b 0 j = 0 := by
  rw [fw_b_t, Nat.zero_testBit]
  rfl
/-! Int32 -/
def fw_o (x : Nat) : Int32 := nI x + (-1)
theorem fw_o0 : fw_o 0 = -1 := by decide
theorem fw_oS (x : Nat) : fw_o (x + 1) = nI x := pk_m1 x
theorem fw_o1 (x : Nat) : fw_o x + 1 = nI x := by
  unfold fw_o
  rw [Int32.add_assoc, show (-1 : Int32) + 1 = 0 by decide, Int32.add_zero]
theorem fw_oP {x : Nat} (h : x ≠ 0) : fw_o x = nI (x - 1) := by
  rw [show x = (x - 1) + 1 by omega, fw_oS]
  rfl
theorem fw_cl {e : Nat} (h : e < 65536) : (nI e).toNatClampNeg = e := nI_clamp (by omega)
theorem fw_in {n N : Nat} (h : n < N) (hN : N < 65536 := by omega) : vp_in (nI n) N := vp_in_nI h (by omega)
theorem fw_rd {a : Nat → Int32} {e : Nat} {x : Int32} (h : a e = x) (he : e < 65536) : a (nI e).toNatClampNeg = x := by
  rw [fw_cl he]
  exact h
theorem fw_ud {a : Nat → Int32} {e : Nat} {x y : Int32} (he : e < 65536) (h : x = y) : upd a (nI e).toNatClampNeg x = upd a e y := by
  rw [fw_cl he, h]
theorem fw_by : ∀ v, v < 128 → (nI v).toInt8.toInt32 = nI v := by decide +kernel
theorem fw_byo : ∀ v, v < 128 → (fw_o v).toInt8.toInt32 = fw_o v := by decide +kernel
theorem fw_nby {v : Nat} (h : v < 128) : vp_nar .byte (nI v) = nI v := by rw [vp_nar_byte, fw_by v h]
theorem fw_nbo {v : Nat} (h : v < 128) : vp_nar .byte (fw_o v) = fw_o v := by rw [vp_nar_byte, fw_byo v h]
theorem fw_x1 : ∀ e, e < 128 → nI e ^^^ 1 = nI (Nat.xor e 1) := by decide +kernel
theorem fw_x2 : ∀ e, e < 128 → Nat.xor (Nat.xor e 1) 1 = e ∧ Nat.xor e 1 ≠ e ∧ Nat.xor e 1 < 128 := by decide +kernel
theorem fw_o_neg {x : Nat} (h : x < 65536) : fw_o x < 0 ↔ x = 0 := by
  cases x with
  | zero => simp [fw_o0]
  | succ x => rw [fw_oS]; exact ⟨fun z => absurd z (nI_pos (by omega)), fun z => absurd z (by omega)⟩
theorem fw_o_pos {x : Nat} (h : x < 65536) : 0 ≤ fw_o x ↔ x ≠ 0 := by
  cases x with
  | zero => simp [fw_o0]
  | succ x => rw [fw_oS]; exact ⟨fun _ => by omega, fun _ => nI_pos' (by omega)⟩
theorem fw_oI {x : Nat} (h : x < 65536) : (fw_o x).toInt = (x : Int) - 1 := by
  cases x with
  | zero => rw [fw_o0]; decide
  | succ x => rw [fw_oS, nI_toInt (by omega)]; omega
theorem fw_o_eq {x y : Nat} (h : x < 65536) (h' : y < 65536) : fw_o x = fw_o y ↔ x = y := by
  rw [← Int32.toInt_inj, fw_oI h, fw_oI h']
  omega
theorem fw_o_ne {x y : Nat} (h : x < 65536) (h' : y < 65536) : fw_o x = nI y ↔ x = y + 1 := by
  rw [← Int32.toInt_inj, fw_oI h, nI_toInt (by omega)]
  omega
theorem fw_o_le {x y : Nat} (h : x < 65536) (h' : y < 65536) : fw_o x ≤ fw_o y ↔ x ≤ y := by
  rw [Int32.le_iff_toInt_le, fw_oI h, fw_oI h']
  omega
theorem fw_o_lt {x y : Nat} (h : x < 65536) (h' : y < 65536) : fw_o x < fw_o y ↔ x < y := by
  rw [Int32.lt_iff_toInt_lt, fw_oI h, fw_oI h']
  omega
/-! what an array holds -/
def fw_A (n : Nat) (a : Nat → Int32) (A : Nat) : Prop := ∀ j, j < n → a j = nI (fw_g A j)
def fw_O (n : Nat) (a : Nat → Int32) (A : Nat) : Prop := ∀ j, j < n → a j = fw_o (fw_g A j)
def fw_U (n : Nat) (a : Nat → Int32) (A : Nat) : Prop := ∀ j, j < n → fw_g A j ≠ 0 → a j = fw_o (fw_g A j)
def fw_M (n : Nat) (a : Nat → Int32) (M : Nat) : Prop := ∀ j, j < n → a j = nI (fw_b M j)
theorem fw_Au {n : Nat} {a : Nat → Int32} {A : Nat} (h : fw_A n a A) (i : Nat) {v : Nat} (hv : v < 256) : fw_A n (upd a i (nI v)) (fw_s A i v) := by
  intro j hj
  rw [fw_g_e A i j hv]
  by_cases e : j = i
  · rw [if_pos e, e, pk_us]
  · rw [if_neg e, pk_un e, h j hj]
theorem fw_Ou {n : Nat} {a : Nat → Int32} {A : Nat} (h : fw_O n a A) (i : Nat) {v : Nat} (hv : v < 256) : fw_O n (upd a i (fw_o v)) (fw_s A i v) := by
  intro j hj
  rw [fw_g_e A i j hv]
  by_cases e : j = i
  · rw [if_pos e, e, pk_us]
  · rw [if_neg e, pk_un e, h j hj]
theorem fw_Uu {n : Nat} {a : Nat → Int32} {A : Nat} (h : fw_U n a A) (i : Nat) {v : Nat} (hv : v < 256) : fw_U n (upd a i (fw_o v)) (fw_s A i v) := by
  intro j hj
  rw [fw_g_e A i j hv]
  by_cases e : j = i
  · rw [if_pos e, e, pk_us]
    exact fun _ => rfl
  · rw [if_neg e, pk_un e]
    exact h j hj
theorem fw_U0 {n : Nat} {a : Nat → Int32} : fw_U n a 0 := fun j _ h => absurd (fw_g_0 j) h
theorem fw_Mu1 {n : Nat} {a : Nat → Int32} {M : Nat} (h : fw_M n a M) (i : Nat) : fw_M n (upd a i 1) (fw_on M i) := by
  intro j hj
  rw [fw_b_on]
  by_cases e : j = i
  · rw [if_pos e, e, pk_us]
    rfl
  · rw [if_neg e, pk_un e, h j hj]
theorem fw_Mu0 {n : Nat} {a : Nat → Int32} {M : Nat} (h : fw_M n a M) (i : Nat) : fw_M n (upd a i 0) (fw_off M i) := by
  intro j hj
  rw [fw_b_off]
  by_cases e : j = i
  · rw [if_pos e, e, pk_us]
    rfl
  · rw [if_neg e, pk_un e, h j hj]
/-! the queue: its places from the first on, and who stands in it -/
def fw_Q (qf qs : Int32) (a13 a14 : Nat → Int32) (Q n M : Nat) : Prop := ∃ f, f < 64 ∧ qf = nI f ∧ qs = nI n ∧ n < 64 ∧ (∀ i, i < n → a13 ((f + i) % 64) = nI (fw_g Q i)) ∧ fw_M 16 a14 M
noncomputable def fw_enq (Q n M v : Nat) (k : Nat → Nat → Nat → Bool) : Bool :=
  fw_if (Nat.beq (fw_b M v) 0) (fw_if (Nat.ble n 62) (k (fw_s Q n v) (Nat.succ n) (fw_on M v)) false) (k Q n M)
noncomputable def fw_deq (Q n M : Nat) (k : Nat → Nat → Nat → Nat → Bool) : Bool :=
  (fun u => fw_if (Nat.ble u 15) (k u (Nat.shiftRight Q 8) (Nat.pred n) (fw_off M u)) false) (Nat.land Q 255)
end
section
section
variable {pr so si ed fl qf qs oc : Int32} {a1 a2 a3 a4 a5 a6 a7 a8 a9 a10 a11 a12 a13 a14 a15 a16 a17 a18 a19 : Nat → Int32}
theorem fw_enq_w {post : St2 → Prop} {Q n M v : Nat} {k : Nat → Nat → Nat → Bool} (hq : fw_Q qf qs a13 a14 Q n M) (hv : v < 16) (hm : fw_enq Q n M v k = true)
    (hp : ∀ (qs' : Int32) (a13' a14' : Nat → Int32) (Q' n' M' : Nat), fw_Q qf qs' a13' a14' Q' n' M' → k Q' n' M' = true → post (pr, so, si, ed, fl, qf, qs', oc, a1, a2, a3, a4, a5, a6, a7, a8, a9, a10, a11, a12, a13', a14', a15, a16, a17, a18, a19)) :
    wpX_enqueue post (pr, so, si, ed, fl, qf, qs, oc, a1, a2, a3, a4, a5, a6, a7, a8, a9, a10, a11, a12, a13, a14, a15, a16, a17, a18, a19) (nI v) := by
  obtain ⟨f, hf, h1, h2, hn, h3, h4⟩ := hq
  subst h1
  subst h2
  have e14 : a14 (nI v).toNatClampNeg = nI (fw_b M v) := fw_rd (h4 v hv) (by omega)
  refine ⟨pk_in v 16 hv, ?_⟩
  rcases fw_ifE hm with ⟨c, hm⟩ | ⟨c, hm⟩
  · obtain ⟨c2, hm⟩ := fw_ifA hm
    have c := fw_eq c
    have c2 := fw_le c2
    have ix : (nI f + nI n) &&& 63 = nI ((f + n) % 64) := by
      rw [nI_add]
      exact pk_andN (by omega) 6 (by decide)
    refine br_t (by rw [e14, c]; rfl) ?_
    rw [ix]
    refine ⟨fw_in (Nat.mod_lt _ (by decide)), nm_r (fw_ud (y := nI v) (by omega) (fw_by v (by omega))) (nm_r (nI_1 n) ⟨pk_in v 16 hv, nm_r (fw_ud (y := 1) (by omega) rfl) (hp _ _ _ _ _ _ ⟨f, hf, rfl, rfl, by omega, ?_, fw_Mu1 h4 v⟩ hm)⟩)⟩
    intro i hi
    rw [fw_g_e Q n i (by omega)]
    by_cases e : i = n
    · rw [if_pos e, e, pk_us]
    · rw [if_neg e, pk_un (by omega)]
      exact h3 i (by omega)
  · have c := fw_ne c
    have b2 := fw_b_2 M v
    refine br_f (by rw [e14]; exact nI_ne0 (by omega) (by omega)) (hp _ _ _ _ _ _ ⟨f, hf, rfl, rfl, hn, h3, h4⟩ hm)
theorem fw_deq_w {post : Int32 → St2 → Prop} {Q n M : Nat} {k : Nat → Nat → Nat → Nat → Bool} (hq : fw_Q qf qs a13 a14 Q n M) (h0 : n ≠ 0) (hm : fw_deq Q n M k = true)
    (hp : ∀ (qf' qs' : Int32) (a14' : Nat → Int32) (u Q' n' M' : Nat), u < 16 → fw_Q qf' qs' a13 a14' Q' n' M' → k u Q' n' M' = true → post (nI u) (pr, so, si, ed, fl, qf', qs', oc, a1, a2, a3, a4, a5, a6, a7, a8, a9, a10, a11, a12, a13, a14', a15, a16, a17, a18, a19)) :
    wpX_dequeue post (pr, so, si, ed, fl, qf, qs, oc, a1, a2, a3, a4, a5, a6, a7, a8, a9, a10, a11, a12, a13, a14, a15, a16, a17, a18, a19) := by
  obtain ⟨f, hf, h1, h2, hn, h3, h4⟩ := hq
  subst h1
  subst h2
  obtain ⟨c, hm⟩ := fw_ifA hm
  have c := fw_le c
  have e13 : a13 (nI f).toNatClampNeg = nI (Nat.land Q 255) := by
    refine fw_rd ?_ (by omega)
    have := h3 0 (by omega)
    rw [Nat.add_zero, Nat.mod_eq_of_lt hf, fw_g_h] at this
    exact this
  have e1 : nI n - 1 = nI (Nat.pred n) := by
    obtain ⟨m, rfl⟩ : ∃ m, n = m + 1 := ⟨n - 1, by omega⟩
    exact nI_pred m
  have ix : (nI f + 1) &&& 63 = nI ((f + 1) % 64) := by
    rw [nI_1]
    exact pk_andN (by omega) 6 (by decide)
  refine ⟨pk_in f 64 hf, nm_r e13 (nm_r ix (nm_r e1 ⟨fw_in (by omega), nm_r (fw_ud (y := 0) (by omega) rfl) (hp _ _ _ _ _ _ _ (by omega) ⟨(f + 1) % 64, Nat.mod_lt _ (by decide), rfl, rfl, by rw [Nat.pred_eq_sub_one]; omega, ?_, fw_Mu0 h4 _⟩ hm)⟩))⟩
  intro i hi
  rw [Nat.pred_eq_sub_one] at hi
  rw [fw_g_sh, show ((f + 1) % 64 + i) % 64 = (f + (i + 1)) % 64 by omega]
  exact h3 (i + 1) (by omega)
theorem fw_clr_w {post : St2 → Prop} (hp : ∀ (qf' qs' : Int32) (a14' : Nat → Int32), fw_Q qf' qs' a13 a14' 0 0 0 → post (pr, so, si, ed, fl, qf', qs', oc, a1, a2, a3, a4, a5, a6, a7, a8, a9, a10, a11, a12, a13, a14', a15, a16, a17, a18, a19)) : wpX_clearQueue post (pr, so, si, ed, fl, qf, qs, oc, a1, a2, a3, a4, a5, a6, a7, a8, a9, a10, a11, a12, a13, a14, a15, a16, a17, a18, a19) :=
  pk_loop (fun n i s => wX_clearQueue_12 post pr so si ed fl 0 0 oc n (nI i) a1 a2 a3 a4 a5 a6 a7 a8 a9 a10 a11 a12 a13 s a15 a16 a17 a18 a19) (fun i s => ∀ j, j < i → s j = 0) 16 0 a14 (by omega) (fun j hj => absurd hj (by omega))
    (fun n s h => pk_le 16 16 (fun _ => hp 0 0 s ⟨0, by omega, rfl, rfl, by omega, fun i hi => absurd hi (by omega), fun j hj => by rw [h j hj, fw_b_0]; rfl⟩) (fun z => absurd z (by omega)))
    (fun n i s hi h hw => pk_le 16 i (fun z => absurd z (by omega)) (fun _ => ⟨pk_in i 16 hi, nm_r (fw_ud (y := 0) (by omega) rfl) (nm_r (nI_1 i) (hw _ (fun j hj => by
      by_cases e : j = i
      · rw [e, pk_us]
      · rw [pk_un e]
        exact h j (by omega))))⟩))
end
/-! room: fw_A E a5 LF -/
noncomputable def fw_mv (LF e am : Nat) (k : Nat → Bool) : Bool :=
  (fun l r => fw_if (Nat.ble am l) (fw_if (Nat.ble (Nat.add r am) 255) (k (fw_s (fw_s LF e (Nat.sub l am)) (Nat.xor e 1) (Nat.add r am))) false) false) (fw_g LF e) (fw_g LF (Nat.xor e 1))
section
variable {pr so si ed fl qf qs oc : Int32} {a1 a2 a3 a4 a5 a6 a7 a8 a9 a10 a11 a12 a13 a14 a15 a16 a17 a18 a19 : Nat → Int32}
theorem fw_mv_w {post : St2 → Prop} {x y : Int32} {E LF e am : Nat} {k : Nat → Bool} (ex : x = nI e) (ey : y = nI am) (h5 : fw_A E a5 LF) (hE : E ≤ 56) (he : e < E) (hx : Nat.xor e 1 < E) (hm : fw_mv LF e am k = true)
    (hp : ∀ (a5' : Nat → Int32) (LF' : Nat), fw_A E a5' LF' → k LF' = true → post (pr, so, si, ed, fl, qf, qs, oc, a1, a2, a3, a4, a5', a6, a7, a8, a9, a10, a11, a12, a13, a14, a15, a16, a17, a18, a19)) :
    wpX_move post (pr, so, si, ed, fl, qf, qs, oc, a1, a2, a3, a4, a5, a6, a7, a8, a9, a10, a11, a12, a13, a14, a15, a16, a17, a18, a19) x y := by
  subst ex
  subst ey
  obtain ⟨c, hm⟩ := fw_ifA hm
  obtain ⟨c2, hm⟩ := fw_ifA hm
  have c := fw_le c
  have c2 : fw_g LF (Nat.xor e 1) + am ≤ 255 := fw_le c2
  have ne := (fw_x2 e (by omega)).2.1
  have gl := fw_g_lt LF e
  have s1 : nI (fw_g LF e) - nI am = nI (Nat.sub (fw_g LF e) am) := pk_sub c
  have r1 : a5 (nI e).toNatClampNeg = nI (fw_g LF e) := fw_rd (h5 e he) (by omega)
  have b1 : Nat.sub (fw_g LF e) am < 256 := by
    show fw_g LF e - am < 256
    omega
  refine ⟨pk_in e 56 (by omega), pk_in e 56 (by omega), nm_r (fw_ud (y := nI (Nat.sub (fw_g LF e) am)) (by omega) (by rw [r1, s1])) ?_⟩
  rw [fw_x1 e (by omega)]
  have r2 : upd a5 e (nI (Nat.sub (fw_g LF e) am)) (nI (Nat.xor e 1)).toNatClampNeg = nI (fw_g LF (Nat.xor e 1)) := by
    refine fw_rd ?_ (by omega)
    rw [pk_un ne]
    exact h5 _ hx
  refine ⟨fw_in (by omega), fw_in (by omega), nm_r (fw_ud (y := nI (Nat.add (fw_g LF (Nat.xor e 1)) am)) (by omega) (by rw [r2, nI_add]; rfl)) (hp _ _ (fw_Au (fw_Au h5 e b1) _ (by show fw_g LF (Nat.xor e 1) + am < 256; omega)) hm)⟩
end
end
section
/-! the net: the chains of edges of the nodes, heads, next edges, first edges -/
def fw_Ch (a4 a7 : Nat → Int32) (n E : Nat) : List (Nat × Nat) → Int32 → Prop
  | [], x => x = -1
  | p :: L, x => x = nI p.1 ∧ p.1 < E ∧ Nat.xor p.1 1 < E ∧ a4 p.1 = nI p.2 ∧ p.2 < 16 ∧ a4 (Nat.xor p.1 1) = nI n ∧ fw_Ch a4 a7 n E L (a7 p.1)
def fw_Net (adj : Nat → List (Nat × Nat)) (TO NX FS E : Nat) (a4 a6 a7 : Nat → Int32) : Prop :=
  E ≤ 56 ∧ (∀ n, n < 16 → fw_Ch a4 a7 n E (adj n) (a6 n)) ∧ (∀ e, e < E → Nat.xor e 1 < E ∧ fw_g TO e < 16 ∧ a4 e = nI (fw_g TO e) ∧ fw_g NX e ≤ E ∧ a7 e = fw_o (fw_g NX e)) ∧ (∀ n, n < 16 → fw_g FS n ≤ E ∧ a6 n = fw_o (fw_g FS n))
noncomputable def fw_bin (least LF lu : Nat) (k : Nat → Nat → Nat → Nat → Nat → Bool) (L : List (Nat × Nat)) : Nat → Nat → Nat → Nat → Nat → Bool :=
  @List.rec (Nat × Nat) (fun _ => Nat → Nat → Nat → Nat → Nat → Bool) (fun LV CB Q n M => k LV CB Q n M)
    (fun p _ ih LV CB Q n M => fw_if (Nat.ble least (fw_g LF p.1)) (fw_if (Nat.beq (fw_g LV p.2) 0) (fw_enq Q n M p.2 (fun Q n M => ih (fw_s LV p.2 lu) (fw_s CB p.2 (Nat.succ p.1)) Q n M)) (ih LV CB Q n M)) (ih LV CB Q n M)) L
noncomputable def fw_bfs (adj : Nat → List (Nat × Nat)) (least LF : Nat) (k : Nat → Nat → Bool) (F : Nat) : Nat → Nat → Nat → Nat → Nat → Bool :=
  @Nat.rec (fun _ => Nat → Nat → Nat → Nat → Nat → Bool) (fun _ _ _ _ _ => false)
    (fun _ ih LV CB Q n M => fw_if (Nat.beq n 0) (k LV CB) (fw_deq Q n M (fun u Q n M => (fun lu => fw_if (Nat.ble 2 lu) (fw_if (Nat.ble lu 255) (fw_bin least LF lu ih (adj u) LV CB Q n M) false) false) (Nat.succ (fw_g LV u))))) F
noncomputable def fw_find (adj : Nat → List (Nat × Nat)) (s least LF : Nat) (k : Nat → Nat → Bool) : Bool :=
  fw_enq 0 0 0 s (fun Q n M => fw_bfs adj least LF k 18 (fw_s 0 s 1) 0 Q n M)
section
variable {pr so si ed fl qf oc : Int32} {a1 a2 a3 a4 a5 a6 a7 a9 a11 a12 a15 a16 a17 a18 a19 : Nat → Int32}
theorem fw_bin_w {post : Int32 → St2 → Prop} {J : Int32 → Int32 → Int32 → Int32 → Int32 → Int32 → Int32 → Int32 → (Nat → Int32) → (Nat → Int32) → (Nat → Int32) → (Nat → Int32) → (Nat → Int32) → (Nat → Int32) → (Nat → Int32) → (Nat → Int32) → (Nat → Int32) → (Nat → Int32) → (Nat → Int32) → (Nat → Int32) → (Nat → Int32) → (Nat → Int32) → (Nat → Int32) → (Nat → Int32) → (Nat → Int32) → (Nat → Int32) → (Nat → Int32) → Prop}
    {E LF lu u least : Nat} {k : Nat → Nat → Nat → Nat → Nat → Bool} (h5 : fw_A E a5 LF) (hE : E ≤ 56) (hl : lu < 256) (hu : u < 16) (hle : least < 65536)
    (hp : ∀ (qs' : Int32) (a8' a10' a13' a14' : Nat → Int32) (LV' CB' Q' n' M' : Nat), fw_O 16 a8' LV' → fw_U 16 a10' CB' → fw_Q qf qs' a13' a14' Q' n' M' → k LV' CB' Q' n' M' = true → J pr so si ed fl qf qs' oc a1 a2 a3 a4 a5 a6 a7 a8' a9 a10' a11 a12 a13' a14' a15 a16 a17 a18 a19) :
    ∀ (L : List (Nat × Nat)) (x3 : Int32) (qs : Int32) (a8 a10 a13 a14 : Nat → Int32) (LV CB Q n M : Nat), fw_Ch a4 a7 u E L x3 → fw_O 16 a8 LV → fw_U 16 a10 CB → fw_Q qf qs a13 a14 Q n M → fw_g LV u + 1 = lu → fw_g LV u ≠ 0 → fw_bin least LF lu k L LV CB Q n M = true →
      ∀ f, L.length < f → wX_findLevels_62 post J (nI least) (nI u) f x3 pr so si ed fl qf qs oc a1 a2 a3 a4 a5 a6 a7 a8 a9 a10 a11 a12 a13 a14 a15 a16 a17 a18 a19 := by
  intro L
  induction L with
  | nil =>
    intro x3 qs a8 a10 a13 a14 LV CB Q n M hc h8 h10 hq _ _ hm f hf
    obtain ⟨g, rfl⟩ : ∃ g, f = g + 1 := ⟨f - 1, by omega⟩
    have hx : x3 = -1 := hc
    subst hx
    exact br_t (by decide) (hp _ _ _ _ _ _ _ _ _ _ h8 h10 hq hm)
  | cons p L ih =>
    intro x3 qs a8 a10 a13 a14 LV CB Q n M hc h8 h10 hq hlu hl0 hm f hf
    obtain ⟨g, rfl⟩ : ∃ g, f = g + 1 := ⟨f - 1, by omega⟩
    have hf' : L.length < g := by
      have : (p :: L).length = L.length + 1 := rfl
      omega
    obtain ⟨hx, he, hx1, h4, hv, ht, hc⟩ := hc
    subst hx
    have r4 : a4 (nI p.1).toNatClampNeg = nI p.2 := fw_rd h4 (by omega)
    have r5 : a5 (nI p.1).toNatClampNeg = nI (fw_g LF p.1) := fw_rd (h5 _ he) (by omega)
    have r7 : a7 (nI p.1).toNatClampNeg = a7 p.1 := fw_rd rfl (by omega)
    have r8 : a8 (nI p.2).toNatClampNeg = fw_o (fw_g LV p.2) := fw_rd (h8 _ hv) (by omega)
    have g1 := fw_g_lt LF p.1
    have g2 := fw_g_lt LV p.2
    have i1 : vp_in (nI p.1) 56 := pk_in p.1 56 (by omega)
    have i2 : vp_in (nI p.2) 16 := pk_in p.2 16 hv
    refine br_f (nI_pos (by omega)) ⟨i1, nm_r r4 ⟨i1, ?_⟩⟩
    rcases fw_ifE hm with ⟨c, hm⟩ | ⟨c, hm⟩
    · have c := fw_le c
      refine br_f (by rw [r5]; exact nI_nlt c (by omega)) ⟨i2, ?_⟩
      rcases fw_ifE hm with ⟨c2, hm⟩ | ⟨c2, hm⟩
      · have c2 := fw_eq c2
        have ne : u ≠ p.2 := fun z => hl0 (z ▸ c2)
        refine br_f (by rw [r8, fw_o_pos (by omega)]; exact fun z => z c2) ⟨pk_in u 16 hu, i2, nm_r (fw_ud (y := fw_o lu) (by omega) (by rw [fw_cl (by omega), h8 u hu, fw_o1, ← hlu, fw_oS])) ⟨i2, nm_r (fw_ud (y := fw_o (Nat.succ p.1)) (by omega) (by rw [fw_by _ (by omega), fw_oS])) (fw_enq_w hq hv hm (fun qs' a13' a14' Q' n' M' hq' hm' => ⟨i1, nm_r r7 (ih _ _ _ _ _ _ _ _ _ _ _ hc (fw_Ou h8 _ hl) (fw_Uu h10 _ (by omega)) hq' ?_ ?_ hm' g hf')⟩))⟩⟩
        · rw [fw_g_n _ _ _ hl ne]
          exact hlu
        · rw [fw_g_n _ _ _ hl ne]
          exact hl0
      · refine br_t (by rw [r8, fw_o_pos (by omega)]; exact fw_ne c2) ⟨i1, nm_r r7 (ih _ _ _ _ _ _ _ _ _ _ _ hc h8 h10 hq hlu hl0 hm g hf')⟩
    · have c := fw_gt c
      exact br_t (by rw [r5]; exact nI_lt c (by omega)) ⟨i1, nm_r r7 (ih _ _ _ _ _ _ _ _ _ _ _ hc h8 h10 hq hlu hl0 hm g hf')⟩
end
section
variable {pr so ed fl oc : Int32} {a1 a2 a3 a4 a5 a6 a7 a9 a11 a12 a15 a16 a17 a18 a19 : Nat → Int32}
theorem fw_bfs_w {post : Int32 → St2 → Prop} {adj : Nat → List (Nat × Nat)} {TO NX FS E LF least t : Nat} {k : Nat → Nat → Bool} (hN : fw_Net adj TO NX FS E a4 a6 a7) (h5 : fw_A E a5 LF) (hle : least < 65536) (ht : t < 16)
    (hp : ∀ (qf' qs' : Int32) (a8' a10' a13' a14' : Nat → Int32) (LV' CB' : Nat), fw_O 16 a8' LV' → fw_U 16 a10' CB' → k LV' CB' = true → post (if fw_g LV' t = 0 then 0 else 1) (pr, so, nI t, ed, fl, qf', qs', oc, a1, a2, a3, a4, a5, a6, a7, a8', a9, a10', a11, a12, a13', a14', a15, a16, a17, a18, a19)) :
    ∀ (F : Nat) (qf qs : Int32) (a8 a10 a13 a14 : Nat → Int32) (LV CB Q n M : Nat), fw_O 16 a8 LV → fw_U 16 a10 CB → fw_Q qf qs a13 a14 Q n M → fw_bfs adj least LF k F LV CB Q n M = true →
      wX_findLevels_43 post (nI least) F pr so (nI t) ed fl qf qs oc a1 a2 a3 a4 a5 a6 a7 a8 a9 a10 a11 a12 a13 a14 a15 a16 a17 a18 a19 := by
  intro F
  induction F with
  | zero =>
    intro qf qs a8 a10 a13 a14 LV CB Q n M _ _ _ hm
    exact absurd hm (by intro z; cases z)
  | succ F ih =>
    intro qf qs a8 a10 a13 a14 LV CB Q n M h8 h10 hq hm
    have hqs : qs = nI n ∧ n < 64 := by
      obtain ⟨f, _, _, h2, hn, _⟩ := hq
      exact ⟨h2, hn⟩
    rcases fw_ifE hm with ⟨c, hm⟩ | ⟨c, hm⟩
    · have c := fw_eq c
      have r8 : a8 (nI t).toNatClampNeg = fw_o (fw_g LV t) := fw_rd (h8 _ ht) (by omega)
      have g2 := fw_g_lt LV t
      have hp' := hp qf qs a8 a10 a13 a14 LV CB h8 h10 hm
      refine br_t (by rw [hqs.1, c]; decide) ⟨pk_in t 16 ht, ?_⟩
      by_cases e : fw_g LV t = 0
      · rw [if_pos e] at hp'
        exact br_t (by rw [r8, fw_o_neg (by omega)]; exact e) hp'
      · rw [if_neg e] at hp'
        exact br_f (by rw [r8, fw_o_neg (by omega)]; exact e) hp'
    · have c := fw_ne c
      refine br_f (by rw [hqs.1]; exact nI_nle (by omega) (by omega)) (fw_deq_w hq c hm (fun qf' qs' a14' u Q' n' M' hu hq' hm' => ?_))
      obtain ⟨c1, hm'⟩ := fw_ifA hm'
      obtain ⟨c2, hm'⟩ := fw_ifA hm'
      have c1 := fw_le c1
      have c2 := fw_le c2
      refine ⟨pk_in u 16 hu, nm_r (fw_rd rfl (by omega)) ⟨_, fw_bin_w (lu := Nat.succ (fw_g LV u)) h5 hN.1 (by omega) hu hle (fun qs'' a8'' a10'' a13'' a14'' LV'' CB'' Q'' n'' M'' e8 e10 eq em => ih _ _ _ _ _ _ _ _ _ _ _ e8 e10 eq em) (adj u) _ _ _ _ _ _ _ _ _ _ _ (hN.2.1 u hu) h8 h10 hq' rfl (by omega) hm' _ (Nat.lt_succ_self _)⟩⟩
end
section
variable {pr so si ed fl qf qs oc : Int32} {a1 a2 a3 a4 a5 a6 a7 a8 a9 a10 a11 a12 a13 a14 a15 a16 a17 a18 a19 : Nat → Int32}
theorem fw_find_w {post : Int32 → St2 → Prop} {adj : Nat → List (Nat × Nat)} {TO NX FS E LF least s t : Nat} {k : Nat → Nat → Bool} (hN : fw_Net adj TO NX FS E a4 a6 a7) (h5 : fw_A E a5 LF) (hle : least < 65536) (hs : s < 16) (ht : t < 16)
    (hm : fw_find adj s least LF k = true)
    (hp : ∀ (qf' qs' : Int32) (a8' a10' a13' a14' : Nat → Int32) (LV' CB' : Nat), fw_O 16 a8' LV' → fw_U 16 a10' CB' → k LV' CB' = true → post (if fw_g LV' t = 0 then 0 else 1) (pr, nI s, nI t, ed, fl, qf', qs', oc, a1, a2, a3, a4, a5, a6, a7, a8', a9, a10', a11, a12, a13', a14', a15, a16, a17, a18, a19)) :
    wpX_findLevels post (pr, nI s, nI t, ed, fl, qf, qs, oc, a1, a2, a3, a4, a5, a6, a7, a8, a9, a10, a11, a12, a13, a14, a15, a16, a17, a18, a19) (nI least) := by
  refine pk_loop (fun n i a => wX_findLevels_2 post (nI least) pr (nI s) (nI t) ed fl qf qs oc n (nI i) a1 a2 a3 a4 a5 a6 a7 a a9 a10 a11 a12 a13 a14 a15 a16 a17 a18 a19) (fun i a => ∀ j, j < i → a j = -1) 16 0 a8 (by omega) (fun j hj => absurd hj (by omega)) ?_ ?_
  · intro n a h
    refine pk_le 16 16 (fun _ => ?_) (fun z => absurd z (by omega))
    refine fw_clr_w (fun qf' qs' a14' hq => ⟨pk_in s 16 hs, nm_r (fw_ud (y := fw_o 1) (by omega) rfl) (fw_enq_w hq hs hm (fun qs'' a13'' a14'' Q n M hq' hm' => ?_))⟩)
    have h8 : fw_O 16 a 0 := fun j hj => by rw [h j hj, fw_g_0]; rfl
    exact ⟨18, fw_bfs_w hN h5 hle ht hp 18 _ _ _ _ _ _ _ _ _ _ _ (fw_Ou h8 s (by omega)) fw_U0 hq' hm'⟩
  · intro n i a hi h hw
    refine pk_le 16 i (fun z => absurd z (by omega)) (fun _ => ⟨pk_in i 16 hi, nm_r (fw_ud (y := -1) (by omega) rfl) (nm_r (nI_1 i) (hw _ (fun j hj => ?_)))⟩)
    by_cases e : j = i
    · rw [e, pk_us]
    · rw [pk_un e]
      exact h j (by omega)
end
end
section
/-! ways: engines 0 and 4 -/
noncomputable def fw_w1 (TO E LF CB s : Nat) (k : Nat → Bool) (F : Nat) : Nat → Nat → Bool :=
  @Nat.rec (fun _ => Nat → Nat → Bool) (fun _ _ => false)
    (fun _ ih am n => fw_if (Nat.beq n s) (k am) ((fun x => fw_if (Nat.beq x 0) false (fw_if (Nat.ble x E) ((fun l m => fw_if (Nat.ble am l) (ih am m) (ih l m)) (fw_g LF (Nat.pred x)) (fw_g TO (Nat.xor (Nat.pred x) 1))) false)) (fw_g CB n))) F
noncomputable def fw_w2 (TO E CB s am : Nat) (k : Nat → Bool) (F : Nat) : Nat → Nat → Bool :=
  @Nat.rec (fun _ => Nat → Nat → Bool) (fun _ _ => false)
    (fun _ ih LF n => fw_if (Nat.beq n s) (k LF) ((fun x => fw_if (Nat.beq x 0) false (fw_if (Nat.ble x E) (fw_mv LF (Nat.pred x) am (fun LF => ih LF (fw_g TO (Nat.xor (Nat.pred x) 1)))) false)) (fw_g CB n))) F
noncomputable def fw_way (TO E s t CB LF : Nat) (k : Nat → Nat → Bool) : Bool :=
  fw_w1 TO E LF CB s (fun am => fw_w2 TO E CB s am (fun LF' => k LF' am) 17 LF t) 17 1048576 t
noncomputable def fw_e0 (adj : Nat → List (Nat × Nat)) (TO E s t : Nat) (k : Nat → Nat → Bool) (F : Nat) : Nat → Nat → Bool :=
  @Nat.rec (fun _ => Nat → Nat → Bool) (fun _ _ => false)
    (fun _ ih LF fl => fw_find adj s 1 LF (fun LV CB => fw_if (Nat.beq (fw_g LV t) 0) (k LF fl) (fw_way TO E s t CB LF (fun LF' am => ih LF' (Nat.add fl am))))) F
noncomputable def fw_h7 (adj : Nat → List (Nat × Nat)) (TO E s t least : Nat) (k : Nat → Nat → Bool) (F : Nat) : Nat → Nat → Bool :=
  @Nat.rec (fun _ => Nat → Nat → Bool) (fun _ _ => false)
    (fun _ ih LF fl => fw_find adj s least LF (fun LV CB => fw_if (Nat.beq (fw_g LV t) 0) (k LF fl) (fw_way TO E s t CB LF (fun LF' am => ih LF' (Nat.add fl am))))) F
noncomputable def fw_e4 (adj : Nat → List (Nat × Nat)) (TO E s t G : Nat) (k : Nat → Nat → Bool) (F : Nat) : Nat → Nat → Nat → Bool :=
  @Nat.rec (fun _ => Nat → Nat → Nat → Bool) (fun _ _ _ => false)
    (fun _ ih least LF fl => fw_if (Nat.beq least 0) (k LF fl) (fw_h7 adj TO E s t least (fun LF fl => ih (Nat.div least 2) LF fl) G LF fl)) F
section
variable {pr so si ed fl qf qs oc : Int32} {a1 a2 a3 a4 a6 a7 a8 a9 a10 a11 a12 a13 a14 a15 a16 a17 a18 a19 : Nat → Int32}
theorem fw_w2_w {post : St2 → Prop} {adj : Nat → List (Nat × Nat)} {TO NX FS E CB s am : Nat} {k : Nat → Bool} (hN : fw_Net adj TO NX FS E a4 a6 a7) (hs : s < 16) (h10 : fw_U 16 a10 CB)
    (hp : ∀ (a5' : Nat → Int32) (LF' : Nat), fw_A E a5' LF' → k LF' = true → post (pr, nI s, si, ed, fl + nI am, qf, qs, oc, a1, a2, a3, a4, a5', a6, a7, a8, a9, a10, a11, a12, a13, a14, a15, a16, a17, a18, a19)) :
    ∀ (F LF n : Nat) (a5 : Nat → Int32), n < 16 → fw_A E a5 LF → fw_w2 TO E CB s am k F LF n = true → wX_fillWay_69 post (nI am) F (nI n) pr (nI s) si ed fl qf qs oc a1 a2 a3 a4 a5 a6 a7 a8 a9 a10 a11 a12 a13 a14 a15 a16 a17 a18 a19 := by
  intro F
  induction F with
  | zero =>
    intro LF n a5 _ _ hm
    exact absurd hm (by intro z; cases z)
  | succ F ih =>
    intro LF n a5 hn h5 hm
    rcases fw_ifE hm with ⟨c, hm⟩ | ⟨c, hm⟩
    · have c := fw_eq c
      exact br_t (by rw [c]) (nm_e (hp _ _ h5 hm))
    · have c := fw_ne c
      obtain ⟨c1, hm⟩ := fw_ifN hm
      obtain ⟨c2, hm⟩ := fw_ifA hm
      have c1 := fw_ne c1
      have c2 := fw_le c2
      have hE := hN.1
      have r10 : a10 (nI n).toNatClampNeg = nI (Nat.pred (fw_g CB n)) := fw_rd (by rw [h10 n hn c1, fw_oP c1]; rfl) (by omega)
      have he : Nat.pred (fw_g CB n) < E := by rw [Nat.pred_eq_sub_one]; omega
      obtain ⟨hx, _⟩ := hN.2.2.1 _ he
      obtain ⟨_, hv, h4, _⟩ := hN.2.2.1 _ hx
      refine br_f (by rw [nI_eq (by omega) (by omega)]; exact c) ⟨pk_in n 16 hn, ?_⟩
      refine fw_mv_w r10 rfl h5 hE he hx hm (fun a5' LF' h5' hm' => ?_)
      have x1 : a10 (nI n).toNatClampNeg ^^^ 1 = nI (Nat.xor (Nat.pred (fw_g CB n)) 1) := by rw [r10, fw_x1 _ (by omega)]
      refine ⟨pk_in n 16 hn, pk_in _ 56 (by omega) x1, nm_r (e' := nI (fw_g TO (Nat.xor (Nat.pred (fw_g CB n)) 1))) (by rw [x1, fw_cl (by omega), h4]) (ih _ _ _ hv h5' hm')⟩
theorem fw_w1_w {post : St2 → Prop} (a5 : Nat → Int32) {adj : Nat → List (Nat × Nat)} {TO NX FS E LF CB s : Nat} {k : Nat → Bool} (hN : fw_Net adj TO NX FS E a4 a6 a7) (hs : s < 16) (h10 : fw_U 16 a10 CB) (h5 : fw_A E a5 LF)
    (hp : ∀ am : Nat, am ≤ 1048576 → k am = true → ∃ f, wX_fillWay_69 post (nI am) f si pr (nI s) si ed fl qf qs oc a1 a2 a3 a4 a5 a6 a7 a8 a9 a10 a11 a12 a13 a14 a15 a16 a17 a18 a19) :
    ∀ (F am n : Nat), am ≤ 1048576 → n < 16 → fw_w1 TO E LF CB s k F am n = true → wX_fillWay_8 post pr (nI s) si ed fl qf qs oc a1 a2 a3 a4 a5 a6 a7 a8 a9 a10 a11 a12 a13 a14 a15 a16 a17 a18 a19 F (nI am) (nI n) := by
  intro F
  induction F with
  | zero =>
    intro am n _ _ hm
    exact absurd hm (by intro z; cases z)
  | succ F ih =>
    intro am n ha hn hm
    rcases fw_ifE hm with ⟨c, hm⟩ | ⟨c, hm⟩
    · have c := fw_eq c
      exact br_t (by rw [c]) (hp am ha hm)
    · have c := fw_ne c
      obtain ⟨c1, hm⟩ := fw_ifN hm
      obtain ⟨c2, hm⟩ := fw_ifA hm
      have c1 := fw_ne c1
      have c2 := fw_le c2
      have hE := hN.1
      have r10 : a10 (nI n).toNatClampNeg = nI (Nat.pred (fw_g CB n)) := fw_rd (by rw [h10 n hn c1, fw_oP c1]; rfl) (by omega)
      have he : Nat.pred (fw_g CB n) < E := by rw [Nat.pred_eq_sub_one]; omega
      obtain ⟨hx, _⟩ := hN.2.2.1 _ he
      obtain ⟨_, hv, h4, _⟩ := hN.2.2.1 _ hx
      have x1 : a10 (nI n).toNatClampNeg ^^^ 1 = nI (Nat.xor (Nat.pred (fw_g CB n)) 1) := by rw [r10, fw_x1 _ (by omega)]
      have r5 : a5 (a10 (nI n).toNatClampNeg).toNatClampNeg = nI (fw_g LF (Nat.pred (fw_g CB n))) := by rw [r10, fw_cl (by omega), h5 _ he]
      have r4 : a4 (a10 (nI n).toNatClampNeg ^^^ 1).toNatClampNeg = nI (fw_g TO (Nat.xor (Nat.pred (fw_g CB n)) 1)) := by rw [x1, fw_cl (by omega), h4]
      have gl := fw_g_lt LF (Nat.pred (fw_g CB n))
      have i1 : vp_in (nI n) 16 := pk_in n 16 hn
      have i2 : vp_in (a10 (nI n).toNatClampNeg) 56 := pk_in _ 56 (by omega) r10
      have i3 : vp_in (a10 (nI n).toNatClampNeg ^^^ 1) 56 := pk_in _ 56 (by omega) x1
      refine br_f (by rw [nI_eq (by omega) (by omega)]; exact c) ⟨i1, i2, ?_⟩
      rcases fw_ifE hm with ⟨c3, hm⟩ | ⟨c3, hm⟩
      · have c3 := fw_le c3
        exact br_t (by rw [r5]; exact nI_le c3 (by omega)) ⟨i1, i3, nm_r r4 (ih _ _ ha hv hm)⟩
      · have c3 := fw_gt c3
        refine br_f (by rw [r5]; exact nI_ge c3 (by omega)) ⟨i1, i2, i1, i3, nm_r r4 ?_⟩
        rw [r5]
        exact ih _ _ (by omega) hv hm
theorem fw_way_w {post : St2 → Prop} (a5 : Nat → Int32) {adj : Nat → List (Nat × Nat)} {TO NX FS E LF CB s t : Nat} {k : Nat → Nat → Bool} (hN : fw_Net adj TO NX FS E a4 a6 a7) (hs : s < 16) (ht : t < 16) (h10 : fw_U 16 a10 CB) (h5 : fw_A E a5 LF)
    (hm : fw_way TO E s t CB LF k = true)
    (hp : ∀ (a5' : Nat → Int32) (LF' am : Nat), fw_A E a5' LF' → k LF' am = true → post (pr, nI s, nI t, ed, fl + nI am, qf, qs, oc, a1, a2, a3, a4, a5', a6, a7, a8, a9, a10, a11, a12, a13, a14, a15, a16, a17, a18, a19)) :
    wpX_fillWay post (pr, nI s, nI t, ed, fl, qf, qs, oc, a1, a2, a3, a4, a5, a6, a7, a8, a9, a10, a11, a12, a13, a14, a15, a16, a17, a18, a19) :=
  ⟨17, fw_w1_w a5 hN hs h10 h5 (fun am _ hm' => ⟨17, fw_w2_w hN hs h10 (fun a5' LF' h5' hm'' => hp a5' LF' am h5' hm'') 17 LF t a5 ht h5 hm'⟩) 17 1048576 t (by omega) ht hm⟩
end
section
variable {pr so si ed oc : Int32} {a1 a2 a3 a4 a6 a7 a9 a11 a12 a15 a16 a17 a18 a19 : Nat → Int32}
theorem fw_e0_w {post : St2 → Prop} {adj : Nat → List (Nat × Nat)} {TO NX FS E s t : Nat} {k : Nat → Nat → Bool} (hN : fw_Net adj TO NX FS E a4 a6 a7) (hs : s < 16) (ht : t < 16)
    (hp : ∀ (fl' qf' qs' : Int32) (a5' a8' a10' a13' a14' : Nat → Int32) (LF' n' : Nat), fw_A E a5' LF' → fl' = nI n' → k LF' n' = true → post (pr, nI s, nI t, ed, fl', qf', qs', oc, a1, a2, a3, a4, a5', a6, a7, a8', a9, a10', a11, a12, a13', a14', a15, a16, a17, a18, a19)) :
    ∀ (F LF n : Nat) (qf qs : Int32) (a5 a8 a10 a13 a14 : Nat → Int32), fw_A E a5 LF → fw_e0 adj TO E s t k F LF n = true → wX_solveByShortestWays_0 post F pr (nI s) (nI t) ed (nI n) qf qs oc a1 a2 a3 a4 a5 a6 a7 a8 a9 a10 a11 a12 a13 a14 a15 a16 a17 a18 a19 := by
  intro F
  induction F with
  | zero =>
    intro LF n qf qs a5 a8 a10 a13 a14 _ hm
    exact absurd hm (by intro z; cases z)
  | succ F ih =>
    intro LF n qf qs a5 a8 a10 a13 a14 h5 hm
    refine fw_find_w (least := 1) hN h5 (by omega) hs ht hm (fun qf' qs' a8' a10' a13' a14' LV' CB' h8' h10' hm' => ?_)
    rcases fw_ifE hm' with ⟨c, hm'⟩ | ⟨c, hm'⟩
    · have c := fw_eq c
      exact br_t (by rw [if_pos c]) (hp _ _ _ _ _ _ _ _ _ _ h5 rfl hm')
    · have c := fw_ne c
      refine br_f (by rw [if_neg c]; decide) (fw_way_w (a5 := a5) hN hs ht h10' h5 hm' (fun a5' LF' am h5' hm'' => ?_))
      have := ih LF' (Nat.add n am) qf' qs' a5' a8' a10' a13' a14' h5' hm''
      rw [show nI (Nat.add n am) = nI n + nI am from (nI_add n am).symm] at this
      exact this
theorem fw_h7_w {post : St2 → Prop} {J : Int32 → Int32 → Int32 → Int32 → Int32 → Int32 → Int32 → Int32 → Int32 → (Nat → Int32) → (Nat → Int32) → (Nat → Int32) → (Nat → Int32) → (Nat → Int32) → (Nat → Int32) → (Nat → Int32) → (Nat → Int32) → (Nat → Int32) → (Nat → Int32) → (Nat → Int32) → (Nat → Int32) → (Nat → Int32) → (Nat → Int32) → (Nat → Int32) → (Nat → Int32) → (Nat → Int32) → (Nat → Int32) → (Nat → Int32) → Prop}
    {adj : Nat → List (Nat × Nat)} {TO NX FS E s t least : Nat} {k : Nat → Nat → Bool} (hN : fw_Net adj TO NX FS E a4 a6 a7) (hs : s < 16) (ht : t < 16) (hle : least < 65536)
    (hp : ∀ (qf' qs' : Int32) (a5' a8' a10' a13' a14' : Nat → Int32) (LF' n' : Nat), fw_A E a5' LF' → k LF' n' = true → J (nI (Nat.div least 2)) pr (nI s) (nI t) ed (nI n') qf' qs' oc a1 a2 a3 a4 a5' a6 a7 a8' a9 a10' a11 a12 a13' a14' a15 a16 a17 a18 a19) :
    ∀ (F LF n : Nat) (qf qs : Int32) (a5 a8 a10 a13 a14 : Nat → Int32), fw_A E a5 LF → fw_h7 adj TO E s t least k F LF n = true → wX_solveByHalves_7 post J (nI least) F pr (nI s) (nI t) ed (nI n) qf qs oc a1 a2 a3 a4 a5 a6 a7 a8 a9 a10 a11 a12 a13 a14 a15 a16 a17 a18 a19 := by
  intro F
  induction F with
  | zero =>
    intro LF n qf qs a5 a8 a10 a13 a14 _ hm
    exact absurd hm (by intro z; cases z)
  | succ F ih =>
    intro LF n qf qs a5 a8 a10 a13 a14 h5 hm
    refine fw_find_w (least := least) hN h5 hle hs ht hm (fun qf' qs' a8' a10' a13' a14' LV' CB' h8' h10' hm' => ?_)
    rcases fw_ifE hm' with ⟨c, hm'⟩ | ⟨c, hm'⟩
    · have c := fw_eq c
      exact br_t (by rw [if_pos c]) ⟨by decide, nm_r (pk_div (d := 2) (by omega) (by omega) (by omega)) (hp _ _ _ _ _ _ _ _ _ h5 hm')⟩
    · have c := fw_ne c
      refine br_f (by rw [if_neg c]; decide) (fw_way_w (a5 := a5) hN hs ht h10' h5 hm' (fun a5' LF' am h5' hm'' => ?_))
      have := ih LF' (Nat.add n am) qf' qs' a5' a8' a10' a13' a14' h5' hm''
      rw [show nI (Nat.add n am) = nI n + nI am from (nI_add n am).symm] at this
      exact this
theorem fw_e4_w {post : St2 → Prop} {adj : Nat → List (Nat × Nat)} {TO NX FS E s t G : Nat} {k : Nat → Nat → Bool} (hN : fw_Net adj TO NX FS E a4 a6 a7) (hs : s < 16) (ht : t < 16)
    (hp : ∀ (fl' qf' qs' : Int32) (a5' a8' a10' a13' a14' : Nat → Int32) (LF' n' : Nat), fw_A E a5' LF' → fl' = nI n' → k LF' n' = true → post (pr, nI s, nI t, ed, fl', qf', qs', oc, a1, a2, a3, a4, a5', a6, a7, a8', a9, a10', a11, a12, a13', a14', a15, a16, a17, a18, a19)) :
    ∀ (F least LF n : Nat) (qf qs : Int32) (a5 a8 a10 a13 a14 : Nat → Int32), least < 65536 → fw_A E a5 LF → fw_e4 adj TO E s t G k F least LF n = true → wX_solveByHalves_3 post F (nI least) pr (nI s) (nI t) ed (nI n) qf qs oc a1 a2 a3 a4 a5 a6 a7 a8 a9 a10 a11 a12 a13 a14 a15 a16 a17 a18 a19 := by
  intro F
  induction F with
  | zero =>
    intro least LF n qf qs a5 a8 a10 a13 a14 _ _ hm
    exact absurd hm (by intro z; cases z)
  | succ F ih =>
    intro least LF n qf qs a5 a8 a10 a13 a14 hle h5 hm
    rcases fw_ifE hm with ⟨c, hm⟩ | ⟨c, hm⟩
    · have c := fw_eq c
      exact br_t (by rw [c]; decide) (hp _ _ _ _ _ _ _ _ _ _ h5 rfl hm)
    · have c := fw_ne c
      refine br_f (nI_nle (by omega) (by omega)) ⟨G, fw_h7_w hN hs ht hle (fun qf' qs' a5' a8' a10' a13' a14' LF' n' h5' hm' => ih _ _ _ _ _ _ _ _ _ _ (Nat.lt_of_le_of_lt (Nat.div_le_self _ _) hle) h5' hm') G LF n qf qs a5 a8 a10 a13 a14 h5 hm⟩
end
end
section
/-! engine 1: paths down the levels -/
noncomputable def fw_ld (LF LV u v e : Nat) : Bool := fw_if (Nat.beq (fw_g LF e) 0) false (Nat.beq (fw_g LV v) (Nat.succ (fw_g LV u)))
section
variable {pr so si ed fl qf qs oc : Int32} {a1 a2 a3 a4 a5 a6 a7 a8 a9 a10 a11 a12 a13 a14 a15 a16 a17 a18 a19 : Nat → Int32}
theorem fw_ld_w {post : Int32 → Prop} {x y : Int32} {E LF LV u v e : Nat} (ex : x = nI u) (ey : y = nI e) (hE : E ≤ 56) (h5 : fw_A E a5 LF) (h8 : fw_O 16 a8 LV) (hu : u < 16) (he : e < E) (h4 : a4 e = nI v) (hv : v < 16)
    (ht : fw_ld LF LV u v e = true → post 1) (hf : fw_ld LF LV u v e = false → post 0) :
    wpX_leadsOn post (pr, so, si, ed, fl, qf, qs, oc, a1, a2, a3, a4, a5, a6, a7, a8, a9, a10, a11, a12, a13, a14, a15, a16, a17, a18, a19) x y := by
  subst ex
  subst ey
  have r5 : a5 (nI e).toNatClampNeg = nI (fw_g LF e) := fw_rd (h5 _ he) (by omega)
  have r4 : a4 (nI e).toNatClampNeg = nI v := fw_rd h4 (by omega)
  have r8 : a8 (a4 (nI e).toNatClampNeg).toNatClampNeg = fw_o (fw_g LV v) := by rw [r4]; exact fw_rd (h8 _ hv) (by omega)
  have r8u : a8 (nI u).toNatClampNeg + 1 = nI (fw_g LV u) := by rw [fw_cl (by omega), h8 u hu, fw_o1]
  have g1 := fw_g_lt LF e
  have g2 := fw_g_lt LV u
  have g3 := fw_g_lt LV v
  have i1 : vp_in (nI e) 56 := pk_in e 56 (by omega)
  refine ⟨i1, ?_⟩
  by_cases c : fw_g LF e = 0
  · refine br_t (by rw [r5, c]; decide) (hf ?_)
    unfold fw_ld
    rw [c]
    rfl
  · refine br_f (by rw [r5]; exact nI_nle (by omega) (by omega)) ⟨i1, pk_in _ 16 hv r4, pk_in u 16 hu, ?_⟩
    have hl : fw_ld LF LV u v e = Nat.beq (fw_g LV v) (Nat.succ (fw_g LV u)) := by
      unfold fw_ld
      have : Nat.beq (fw_g LF e) 0 = false := by
        cases h : Nat.beq (fw_g LF e) 0 with
        | false => rfl
        | true => exact absurd (fw_eq h) c
      rw [this]
      rfl
    rw [r8, r8u]
    by_cases d : fw_g LV v = fw_g LV u + 1
    · exact br_t ((fw_o_ne (by omega) (by omega)).mpr d) (ht (by rw [hl, d]; exact Nat.beq_refl _))
    · refine br_f (fun z => d ((fw_o_ne (by omega) (by omega)).mp z)) (hf ?_)
      rw [hl]
      cases h : Nat.beq (fw_g LV v) (Nat.succ (fw_g LV u)) with
      | false => rfl
      | true => exact absurd (fw_eq h) d
end
noncomputable def fw_p1 (E LF P d : Nat) (k : Nat → Bool) (F : Nat) : Nat → Nat → Bool :=
  @Nat.rec (fun _ => Nat → Nat → Bool) (fun _ _ => false)
    (fun _ ih am i => fw_if (Nat.ble d i) (k am) ((fun e => fw_if (Nat.ble (Nat.succ e) E) ((fun l => fw_if (Nat.ble am l) (ih am (Nat.succ i)) (ih l (Nat.succ i))) (fw_g LF e)) false) (fw_g P i))) F
noncomputable def fw_p2 (E P am : Nat) (k : Nat → Nat → Bool) (j : Nat) : Nat → Nat → Bool :=
  @Nat.rec (fun _ => Nat → Nat → Bool) (fun LF full => k LF full)
    (fun i ih LF full => (fun e => fw_if (Nat.ble (Nat.succ e) E) (fw_mv LF e am (fun LF => fw_if (Nat.beq (fw_g LF e) 0) (ih LF i) (ih LF full))) false) (fw_g P i)) j
noncomputable def fw_fp (E P d LF : Nat) (k : Nat → Nat → Nat → Bool) : Bool :=
  fw_p1 E LF P d (fun am => fw_p2 E P am (fun LF full => k LF full am) d LF d) 17 1048576 0
section
variable {pr so si ed fl qf qs oc : Int32} {a1 a2 a3 a4 a6 a7 a8 a9 a10 a11 a12 a13 a14 a15 a16 a17 a18 a19 : Nat → Int32}
theorem fw_p2_w {post : Int32 → St2 → Prop} {adj : Nat → List (Nat × Nat)} {TO NX FS E P am d : Nat} {k : Nat → Nat → Bool} (hN : fw_Net adj TO NX FS E a4 a6 a7) (h15 : fw_A d a15 P) (hd : d ≤ 16)
    (hp : ∀ (a5' : Nat → Int32) (LF' full : Nat), fw_A E a5' LF' → k LF' full = true → post (nI full) (pr, so, si, ed, fl + nI am, qf, qs, oc, a1, a2, a3, a4, a5', a6, a7, a8, a9, a10, a11, a12, a13, a14, a15, a16, a17, a18, a19)) :
    ∀ (j LF full : Nat) (a5 : Nat → Int32), j ≤ d → fw_A E a5 LF → fw_p2 E P am k j LF full = true → wX_fillPath_54 post (nI am) (j + 1) (nI full) (fw_o j) pr so si ed fl qf qs oc a1 a2 a3 a4 a5 a6 a7 a8 a9 a10 a11 a12 a13 a14 a15 a16 a17 a18 a19 := by
  intro j
  induction j with
  | zero =>
    intro LF full a5 _ h5 hm
    exact br_t (by decide) (nm_e (hp _ _ _ h5 hm))
  | succ i ih =>
    intro LF full a5 hj h5 hm
    obtain ⟨c, hm⟩ := fw_ifA hm
    have c : fw_g P i + 1 ≤ E := fw_le c
    have hE := hN.1
    obtain ⟨hx, _⟩ := hN.2.2.1 _ (show fw_g P i < E by omega)
    have r15 : a15 (nI i).toNatClampNeg = nI (fw_g P i) := fw_rd (h15 i (by omega)) (by omega)
    rw [fw_oS]
    refine br_f (nI_pos (by omega)) ⟨pk_in i 16 (by omega), ?_⟩
    refine fw_mv_w r15 rfl h5 hE (by omega) hx hm (fun a5' LF' h5' hm' => ⟨pk_in i 16 (by omega), pk_in _ 56 (by omega) r15, ?_⟩)
    have r5 : a5' (a15 (nI i).toNatClampNeg).toNatClampNeg = nI (fw_g LF' (fw_g P i)) := by rw [r15]; exact fw_rd (h5' _ (by omega)) (by omega)
    have g1 := fw_g_lt LF' (fw_g P i)
    rcases fw_ifE hm' with ⟨c2, hm'⟩ | ⟨c2, hm'⟩
    · have c2 := fw_eq c2
      exact br_t (by rw [r5, c2]; rfl) (nm_e (ih _ _ _ (by omega) h5' hm'))
    · have c2 := fw_ne c2
      exact br_f (by rw [r5]; exact nI_ne0 (by omega) (by omega)) (nm_e (ih _ _ _ (by omega) h5' hm'))
theorem fw_p1_w {post : Int32 → St2 → Prop} (a5 : Nat → Int32) {E LF P d : Nat} {k : Nat → Bool} (hE : E ≤ 56) (h15 : fw_A d a15 P) (hd : d ≤ 16) (h5 : fw_A E a5 LF)
    (hp : ∀ am : Nat, k am = true → ∃ f, wX_fillPath_54 post (nI am) f (nI d) (fw_o d) pr so si ed fl qf qs oc a1 a2 a3 a4 a5 a6 a7 a8 a9 a10 a11 a12 a13 a14 a15 a16 a17 a18 a19) :
    ∀ (F am i : Nat), am ≤ 1048576 → i ≤ d → fw_p1 E LF P d k F am i = true → wX_fillPath_5 post (nI d) pr so si ed fl qf qs oc a1 a2 a3 a4 a5 a6 a7 a8 a9 a10 a11 a12 a13 a14 a15 a16 a17 a18 a19 F (nI am) (nI i) := by
  intro F
  induction F with
  | zero =>
    intro am i _ _ hm
    exact absurd hm (by intro z; cases z)
  | succ F ih =>
    intro am i ha hi hm
    rcases fw_ifE hm with ⟨c, hm⟩ | ⟨c, hm⟩
    · have c := fw_le c
      exact br_t (nI_le c (by omega)) (nm_r (e' := fw_o d) (by unfold fw_o; rw [Int32.sub_eq_add_neg]) (hp am hm))
    · have c := fw_gt c
      obtain ⟨c2, hm⟩ := fw_ifA hm
      have c2 : fw_g P i + 1 ≤ E := fw_le c2
      have r15 : a15 (nI i).toNatClampNeg = nI (fw_g P i) := fw_rd (h15 i (by omega)) (by omega)
      have r5 : a5 (a15 (nI i).toNatClampNeg).toNatClampNeg = nI (fw_g LF (fw_g P i)) := by rw [r15]; exact fw_rd (h5 _ (by omega)) (by omega)
      have g1 := fw_g_lt LF (fw_g P i)
      have i1 : vp_in (nI i) 16 := pk_in i 16 (by omega)
      have i2 : vp_in (a15 (nI i).toNatClampNeg) 56 := pk_in _ 56 (by omega) r15
      refine br_f (nI_ge c (by omega)) ⟨i1, i2, ?_⟩
      rcases fw_ifE hm with ⟨c3, hm⟩ | ⟨c3, hm⟩
      · have c3 := fw_le c3
        exact br_t (by rw [r5]; exact nI_le c3 (by omega)) (nm_r (nI_1 i) (ih _ _ ha (by omega) hm))
      · have c3 := fw_gt c3
        exact br_f (by rw [r5]; exact nI_ge c3 (by omega)) ⟨i1, i2, nm_r r5 (nm_r (nI_1 i) (ih _ _ (by omega) (by omega) hm))⟩
theorem fw_fp_w {post : Int32 → St2 → Prop} (a5 : Nat → Int32) {adj : Nat → List (Nat × Nat)} {TO NX FS E LF P d : Nat} {k : Nat → Nat → Nat → Bool} (hN : fw_Net adj TO NX FS E a4 a6 a7) (h15 : fw_A d a15 P) (hd : d ≤ 16) (h5 : fw_A E a5 LF)
    (hm : fw_fp E P d LF k = true)
    (hp : ∀ (a5' : Nat → Int32) (LF' full am : Nat), fw_A E a5' LF' → k LF' full am = true → post (nI full) (pr, so, si, ed, fl + nI am, qf, qs, oc, a1, a2, a3, a4, a5', a6, a7, a8, a9, a10, a11, a12, a13, a14, a15, a16, a17, a18, a19)) :
    wpX_fillPath post (pr, so, si, ed, fl, qf, qs, oc, a1, a2, a3, a4, a5, a6, a7, a8, a9, a10, a11, a12, a13, a14, a15, a16, a17, a18, a19) (nI d) :=
  ⟨17, fw_p1_w a5 hN.1 h15 hd h5 (fun am hm' => ⟨d + 1, fw_p2_w hN h15 hd (fun a5' LF' full h5' hm'' => hp a5' LF' full am h5' hm'') d LF d a5 (Nat.le_refl d) h5 hm'⟩) 17 1048576 0 (by omega) (by omega) hm⟩
end
noncomputable def fw_l13 (TO NX E t LF LV u : Nat) (k : Nat → Bool) (F : Nat) : Nat → Bool :=
  @Nat.rec (fun _ => Nat → Bool) (fun _ => false)
    (fun _ ih CU => fw_if (Nat.beq u t) (k CU) ((fun x => fw_if (Nat.beq x 0) (k CU) (fw_if (Nat.ble x E) (fw_if (fw_ld LF LV u (fw_g TO (Nat.pred x)) (Nat.pred x)) (k CU) (ih (fw_s CU u (fw_g NX (Nat.pred x))))) false)) (fw_g CU u))) F
noncomputable def fw_fl (TO NX E t G : Nat) (k : Nat → Nat → Bool) (F : Nat) : Nat → Nat → Nat → Nat → Nat → Nat → Nat → Bool :=
  @Nat.rec (fun _ => Nat → Nat → Nat → Nat → Nat → Nat → Nat → Bool) (fun _ _ _ _ _ _ _ => false)
    (fun _ ih d u P CU LV LF fl => fw_l13 TO NX E t LF LV u (fun CU => fw_if (Nat.beq u t)
      (fw_fp E P d LF (fun LF full am => fw_if (Nat.ble (Nat.succ full) d) ((fun e => fw_if (Nat.ble (Nat.succ e) E) (ih full (fw_g TO (Nat.xor e 1)) P CU LV LF (Nat.add fl am)) false) (fw_g P full)) false))
      ((fun x => fw_if (Nat.beq x 0)
        (fw_if (Nat.beq d 0) (k LF fl) ((fun e => fw_if (Nat.ble (Nat.succ e) E) (ih (Nat.pred d) (fw_g TO (Nat.xor e 1)) P CU (fw_s LV u 0) LF fl) false) (fw_g P (Nat.pred d))))
        (fw_if (Nat.ble x E) (fw_if (Nat.ble d 15) (ih (Nat.succ d) (fw_g TO (Nat.pred x)) (fw_s P d (Nat.pred x)) CU LV LF fl) false) false)) (fw_g CU u))) G CU) F
section
variable {pr so si ed fl qf qs oc : Int32} {a1 a2 a3 a4 a5 a6 a7 a8 a10 a11 a12 a13 a14 a15 a16 a17 a18 a19 : Nat → Int32}
theorem fw_l13_w {post : St2 → Prop} {J : Int32 → Int32 → Int32 → Int32 → Int32 → Int32 → Int32 → Int32 → Int32 → Int32 → Int32 → (Nat → Int32) → (Nat → Int32) → (Nat → Int32) → (Nat → Int32) → (Nat → Int32) → (Nat → Int32) → (Nat → Int32) → (Nat → Int32) → (Nat → Int32) → (Nat → Int32) → (Nat → Int32) → (Nat → Int32) → (Nat → Int32) → (Nat → Int32) → (Nat → Int32) → (Nat → Int32) → (Nat → Int32) → (Nat → Int32) → (Nat → Int32) → Prop}
    {x1 x3 : Int32} {adj : Nat → List (Nat × Nat)} {TO NX FS E LF LV t u : Nat} {k : Nat → Bool} (hN : fw_Net adj TO NX FS E a4 a6 a7) (h5 : fw_A E a5 LF) (h8 : fw_O 16 a8 LV) (hu : u < 16) (ht : t < 16)
    (hp : ∀ (a9' : Nat → Int32) (CU' : Nat), fw_O 16 a9' CU' → k CU' = true → wX_fillLevels_64 post J x1 (nI u) x3 pr so (nI t) ed fl qf qs oc a1 a2 a3 a4 a5 a6 a7 a8 a9' a10 a11 a12 a13 a14 a15 a16 a17 a18 a19) :
    ∀ (F CU : Nat) (a9 : Nat → Int32), fw_O 16 a9 CU → fw_l13 TO NX E t LF LV u k F CU = true → wX_fillLevels_13 post J x1 (nI u) x3 pr so (nI t) ed fl qf qs oc F a1 a2 a3 a4 a5 a6 a7 a8 a9 a10 a11 a12 a13 a14 a15 a16 a17 a18 a19 := by
  intro F
  induction F with
  | zero =>
    intro CU a9 _ hm
    exact absurd hm (by intro z; cases z)
  | succ F ih =>
    intro CU a9 h9 hm
    rcases fw_ifE hm with ⟨c, hm⟩ | ⟨c, hm⟩
    · have c := fw_eq c
      exact br_t (by rw [c]) (hp _ _ h9 hm)
    · have c := fw_ne c
      have hE := hN.1
      have r9 : a9 (nI u).toNatClampNeg = fw_o (fw_g CU u) := fw_rd (h9 u hu) (by omega)
      have g1 := fw_g_lt CU u
      have i1 : vp_in (nI u) 16 := pk_in u 16 hu
      refine br_f (by rw [nI_eq (by omega) (by omega)]; exact c) ⟨i1, ?_⟩
      rcases fw_ifE hm with ⟨c1, hm⟩ | ⟨c1, hm⟩
      · have c1 := fw_eq c1
        exact br_t (by rw [r9, c1]; decide) (hp _ _ h9 hm)
      · have c1 := fw_ne c1
        obtain ⟨c2, hm⟩ := fw_ifA hm
        have c2 := fw_le c2
        have he : Nat.pred (fw_g CU u) < E := by rw [Nat.pred_eq_sub_one]; omega
        have r9' : a9 (nI u).toNatClampNeg = nI (Nat.pred (fw_g CU u)) := by rw [r9, fw_oP c1]; rfl
        obtain ⟨_, hv, h4, h7n, h7⟩ := hN.2.2.1 _ he
        refine br_f (by rw [r9, fw_o_neg (by omega)]; exact c1) ⟨i1, ?_⟩
        have r7 : a7 (a9 (nI u).toNatClampNeg).toNatClampNeg = fw_o (fw_g NX (Nat.pred (fw_g CU u))) := by rw [r9']; exact fw_rd h7 (by omega)
        have i2 : vp_in (a9 (nI u).toNatClampNeg) 56 := pk_in _ 56 (by omega) r9'
        have go : fw_ld LF LV u (fw_g TO (Nat.pred (fw_g CU u))) (Nat.pred (fw_g CU u)) = false → wX_fillLevels_13 post J x1 (nI u) x3 pr so (nI t) ed fl qf qs oc F a1 a2 a3 a4 a5 a6 a7 a8 (upd a9 u (fw_o (fw_g NX (Nat.pred (fw_g CU u))))) a10 a11 a12 a13 a14 a15 a16 a17 a18 a19 := by
          intro hl
          rw [hl] at hm
          exact ih _ _ (fw_Ou h9 u (by omega)) hm
        have go2 : fw_ld LF LV u (fw_g TO (Nat.pred (fw_g CU u))) (Nat.pred (fw_g CU u)) = true → wX_fillLevels_64 post J x1 (nI u) x3 pr so (nI t) ed fl qf qs oc a1 a2 a3 a4 a5 a6 a7 a8 a9 a10 a11 a12 a13 a14 a15 a16 a17 a18 a19 := by
          intro hl
          rw [hl] at hm
          exact hp _ _ h9 hm
        exact fw_ld_w rfl r9' hE h5 h8 hu he h4 hv (fun hl => br_f (by decide) (go2 hl)) (fun hl => br_t rfl ⟨i1, i2, i1, nm_r (fw_ud (y := fw_o (fw_g NX (Nat.pred (fw_g CU u)))) (by omega) (by rw [r7]; exact fw_nbo (by omega))) (go hl)⟩)
end
section
variable {pr so si ed qf qs oc : Int32} {a1 a2 a3 a4 a6 a7 a10 a11 a12 a13 a14 a16 a17 a18 a19 : Nat → Int32}
theorem fw_fl_w {post : St2 → Prop} {adj : Nat → List (Nat × Nat)} {TO NX FS E t G : Nat} {k : Nat → Nat → Bool} (hN : fw_Net adj TO NX FS E a4 a6 a7) (ht : t < 16)
    (hp : ∀ (a5' a8' a9' a15' : Nat → Int32) (LF' n' : Nat), fw_A E a5' LF' → k LF' n' = true → post (pr, so, nI t, ed, nI n', qf, qs, oc, a1, a2, a3, a4, a5', a6, a7, a8', a9', a10, a11, a12, a13, a14, a15', a16, a17, a18, a19)) :
    ∀ (F d u P CU LV LF n : Nat) (a5 a8 a9 a15 : Nat → Int32), d ≤ 16 → u < 16 → fw_A d a15 P → fw_O 16 a9 CU → fw_O 16 a8 LV → fw_A E a5 LF → fw_fl TO NX E t G k F d u P CU LV LF n = true →
      wX_fillLevels_9 post (F + 1) (nI d) (nI u) 1 pr so (nI t) ed (nI n) qf qs oc a1 a2 a3 a4 a5 a6 a7 a8 a9 a10 a11 a12 a13 a14 a15 a16 a17 a18 a19 := by
  intro F
  induction F with
  | zero =>
    intro d u P CU LV LF n a5 a8 a9 a15 _ _ _ _ _ _ hm
    exact absurd hm (by intro z; cases z)
  | succ F ih =>
    intro d u P CU LV LF n a5 a8 a9 a15 hd hu h15 h9 h8 h5 hm
    have hE := hN.1
    refine br_f (by decide) ⟨G, fw_l13_w hN h5 h8 hu ht (fun a9' CU' h9' hm' => ?_) G CU a9 h9 hm⟩
    rcases fw_ifE hm' with ⟨c, hm'⟩ | ⟨c, hm'⟩
    · have c := fw_eq c
      refine br_t (by rw [c]) (fw_fp_w a5 hN h15 hd h5 hm' (fun a5' LF' full am h5' hm'' => ?_))
      obtain ⟨c1, hm''⟩ := fw_ifA hm''
      obtain ⟨c2, hm''⟩ := fw_ifA hm''
      have c1 : full + 1 ≤ d := fw_le c1
      have c2 : fw_g P full + 1 ≤ E := fw_le c2
      obtain ⟨hx, _⟩ := hN.2.2.1 _ (show fw_g P full < E by omega)
      obtain ⟨_, hv, h4, _⟩ := hN.2.2.1 _ hx
      have x1 : a15 (nI full).toNatClampNeg ^^^ 1 = nI (Nat.xor (fw_g P full) 1) := by rw [fw_cl (by omega), h15 full (by omega), fw_x1 _ (by omega)]
      have := ih full _ P CU' LV LF' (Nat.add n am) a5' a8 a9' a15 (by omega) hv (fun j hj => h15 j (by omega)) h9' h8 h5' hm''
      rw [show nI (Nat.add n am) = nI n + nI am from (nI_add n am).symm] at this
      exact ⟨pk_in full 16 (by omega), pk_in _ 56 (by omega) x1, nm_r (by rw [x1, fw_cl (by omega), h4]) this⟩
    · have c := fw_ne c
      have r9 : a9' (nI u).toNatClampNeg = fw_o (fw_g CU' u) := fw_rd (h9' u hu) (by omega)
      have g1 := fw_g_lt CU' u
      have i1 : vp_in (nI u) 16 := pk_in u 16 hu
      refine br_f (by rw [nI_eq (by omega) (by omega)]; exact c) ⟨i1, ?_⟩
      rcases fw_ifE hm' with ⟨c1, hm'⟩ | ⟨c1, hm'⟩
      · have c1 := fw_eq c1
        refine br_t (by rw [r9, c1]; decide) ?_
        rcases fw_ifE hm' with ⟨c2, hm'⟩ | ⟨c2, hm'⟩
        · have c2 := fw_eq c2
          exact br_t (by rw [c2]; rfl) (br_t rfl (hp _ _ _ _ _ _ h5 hm'))
        · have c2 := fw_ne c2
          obtain ⟨c3, hm'⟩ := fw_ifA hm'
          obtain ⟨m, rfl⟩ : ∃ m, d = m + 1 := ⟨d - 1, by omega⟩
          have c3 : fw_g P m + 1 ≤ E := fw_le c3
          obtain ⟨hx, _⟩ := hN.2.2.1 _ (show fw_g P m < E by omega)
          obtain ⟨_, hv, h4, _⟩ := hN.2.2.1 _ hx
          have x1 : a15 (nI m).toNatClampNeg ^^^ 1 = nI (Nat.xor (fw_g P m) 1) := by rw [fw_cl (by omega), h15 m (by omega), fw_x1 _ (by omega)]
          exact br_f (nI_ne0 (by omega) (by omega)) (nm_r (pk_m1 m) ⟨i1, nm_r (fw_ud (y := fw_o 0) (by omega) rfl) ⟨pk_in m 16 (by omega), pk_in _ 56 (by omega) x1, nm_r (by rw [x1, fw_cl (by omega), h4]) (ih m _ P CU' _ LF n a5 _ a9' a15 (by omega) hv (fun j hj => h15 j (by omega)) h9' (fw_Ou h8 u (by omega)) h5 hm')⟩⟩)
      · have c1 := fw_ne c1
        obtain ⟨c2, hm'⟩ := fw_ifA hm'
        obtain ⟨c3, hm'⟩ := fw_ifA hm'
        have c2 := fw_le c2
        have c3 := fw_le c3
        have r9' : a9' (nI u).toNatClampNeg = nI (Nat.pred (fw_g CU' u)) := by rw [r9, fw_oP c1]; rfl
        have he : Nat.pred (fw_g CU' u) < E := by rw [Nat.pred_eq_sub_one]; omega
        obtain ⟨_, hv, h4, _⟩ := hN.2.2.1 _ he
        have i2 : vp_in (a9' (nI u).toNatClampNeg) 56 := pk_in _ 56 (by omega) r9'
        refine br_f (by rw [r9, fw_o_neg (by omega)]; exact c1) ⟨i1, pk_in d 16 (by omega), nm_r (fw_ud (y := nI (Nat.pred (fw_g CU' u))) (by omega) (by rw [r9']; exact fw_nby (by omega))) ⟨i1, i2, nm_r (by rw [r9', fw_cl (by omega), h4]) (nm_r (nI_1 d) (ih (d + 1) _ _ CU' LV LF n a5 a8 a9' _ (by omega) hv ?_ h9' h8 h5 hm'))⟩⟩
        intro j hj
        rw [fw_g_e P d j (by omega)]
        by_cases e : j = d
        · rw [if_pos e, e, pk_us]
        · rw [if_neg e, pk_un e]
          exact h15 j (by omega)
end
noncomputable def fw_e1 (adj : Nat → List (Nat × Nat)) (TO NX FS E s t G H : Nat) (k : Nat → Nat → Bool) (F : Nat) : Nat → Nat → Bool :=
  @Nat.rec (fun _ => Nat → Nat → Bool) (fun _ _ => false)
    (fun _ ih LF fl => fw_find adj s 1 LF (fun LV _ => fw_if (Nat.beq (fw_g LV t) 0) (k LF fl) (fw_fl TO NX E t G ih H 0 s 0 FS LV LF fl))) F
section
variable {pr so si ed oc : Int32} {a1 a2 a3 a4 a6 a7 a11 a12 a16 a17 a18 a19 : Nat → Int32}
theorem fw_e1_w {post : St2 → Prop} {adj : Nat → List (Nat × Nat)} {TO NX FS E s t G H : Nat} {k : Nat → Nat → Bool} (hN : fw_Net adj TO NX FS E a4 a6 a7) (hs : s < 16) (ht : t < 16)
    (hp : ∀ (fl' qf' qs' : Int32) (a5' a8' a9' a10' a13' a14' a15' : Nat → Int32) (LF' n' : Nat), fw_A E a5' LF' → fl' = nI n' → k LF' n' = true → post (pr, nI s, nI t, ed, fl', qf', qs', oc, a1, a2, a3, a4, a5', a6, a7, a8', a9', a10', a11, a12, a13', a14', a15', a16, a17, a18, a19)) :
    ∀ (F LF n : Nat) (qf qs : Int32) (a5 a8 a9 a10 a13 a14 a15 : Nat → Int32), fw_A E a5 LF → fw_e1 adj TO NX FS E s t G H k F LF n = true → wX_solveByLevels_0 post F pr (nI s) (nI t) ed (nI n) qf qs oc a1 a2 a3 a4 a5 a6 a7 a8 a9 a10 a11 a12 a13 a14 a15 a16 a17 a18 a19 := by
  intro F
  induction F with
  | zero =>
    intro LF n qf qs a5 a8 a9 a10 a13 a14 a15 _ hm
    exact absurd hm (by intro z; cases z)
  | succ F ih =>
    intro LF n qf qs a5 a8 a9 a10 a13 a14 a15 h5 hm
    refine fw_find_w (least := 1) hN h5 (by omega) hs ht hm (fun qf' qs' a8' a10' a13' a14' LV' CB' h8' h10' hm' => ?_)
    rcases fw_ifE hm' with ⟨c, hm'⟩ | ⟨c, hm'⟩
    · have c := fw_eq c
      exact br_t (by rw [if_pos c]) (hp _ _ _ _ _ _ _ _ _ _ _ _ h5 rfl hm')
    · have c := fw_ne c
      refine br_f (by rw [if_neg c]; decide) (pk_loop (fun f i a => wX_solveByLevels_10 post (wX_solveByLevels_0 post F) pr (nI s) (nI t) ed (nI n) qf' qs' oc f (nI i) a1 a2 a3 a4 a5 a6 a7 a8' a a10' a11 a12 a13' a14' a15 a16 a17 a18 a19) (fun i a => ∀ j, j < i → a j = a6 j) 16 0 a9 (by omega) (fun j hj => absurd hj (by omega)) ?_ ?_)
      · intro f a h
        have h9 : fw_O 16 a FS := fun j hj => by rw [h j hj]; exact (hN.2.2.2 j hj).2
        refine pk_le 16 16 (fun _ => ⟨H + 1, fw_fl_w hN ht (fun a5'' a8'' a9'' a15'' LF'' n'' h5'' hm'' => ih _ _ _ _ _ _ _ _ _ _ _ h5'' hm'') H 0 s 0 FS LV' LF n a5 a8' a a15 (by omega) hs (fun j hj => absurd hj (by omega)) h9 h8' h5 hm'⟩) (fun z => absurd z (by omega))
      · intro f i a hi h hw
        have r6 := (hN.2.2.2 i hi).2
        have b6 := (hN.2.2.2 i hi).1
        have hE := hN.1
        refine pk_le 16 i (fun z => absurd z (by omega)) (fun _ => ⟨pk_in i 16 hi, pk_in i 16 hi, nm_r (fw_ud (y := a6 i) (by omega) (by rw [fw_cl (by omega), r6]; exact fw_nbo (by omega))) (nm_r (nI_1 i) (hw _ (fun j hj => ?_)))⟩)
        by_cases e : j = i
        · rw [e, pk_us]
        · rw [pk_un e]
          exact h j (by omega)
end
end
section
/-! engines 2 and 3: pushing -/
def fw_X (s : Nat) (a : Nat → Int32) (X : Nat) : Prop := ∀ j, j < 16 → j ≠ s → a j = nI (fw_g X j)
theorem fw_Xu {s : Nat} {a : Nat → Int32} {X : Nat} (h : fw_X s a X) (i : Nat) {v : Nat} (hv : v < 256) : fw_X s (upd a i (nI v)) (fw_s X i v) := by
  intro j hj hn
  rw [fw_g_e X i j hv]
  by_cases e : j = i
  · rw [if_pos e, e, pk_us]
  · rw [if_neg e, pk_un e, h j hj hn]
theorem fw_Xs {s : Nat} {a : Nat → Int32} {X : Nat} (h : fw_X s a X) (y : Int32) : fw_X s (upd a s y) X := by
  intro j hj hn
  rw [pk_un hn]
  exact h j hj hn
theorem fw_mv_le {LF e am : Nat} {k : Nat → Bool} (hm : fw_mv LF e am k = true) : am < 256 := by
  obtain ⟨c, _⟩ := fw_ifA hm
  have c := fw_le c
  have := fw_g_lt LF e
  omega
noncomputable def fw_pa (s t e v am LF EX Q n M : Nat) (k : Nat → Nat → Nat → Nat → Nat → Bool) : Bool :=
  fw_mv LF e am (fun LF => fw_if (Nat.beq v s) (k LF EX Q n M) ((fun x => fw_if (Nat.ble x 255) ((fun EX => fw_if (Nat.beq am 0) (k LF EX Q n M) (fw_if (Nat.beq v t) (k LF EX Q n M) (fw_enq Q n M v (fun Q n M => k LF EX Q n M)))) (fw_s EX v x)) false) (Nat.add (fw_g EX v) am)))
section
variable {pr so si ed fl qf qs oc : Int32} {a1 a2 a3 a4 a5 a6 a7 a8 a9 a10 a11 a12 a13 a14 a15 a16 a17 a18 a19 : Nat → Int32}
theorem fw_pa_w {post : St2 → Prop} {x y z : Int32} {s t u e v am E LF EX Q n M : Nat} {k : Nat → Nat → Nat → Nat → Nat → Bool} (ex : x = nI u) (ey : y = nI e) (ez : z = nI am)
    (h5 : fw_A E a5 LF) (hE : E ≤ 56) (he : e < E) (hx : Nat.xor e 1 < E) (h4 : a4 e = nI v) (hv : v < 16) (hu : u < 16) (hs : s < 16) (ht : t < 16)
    (hX : fw_X s (upd a11 u (a11 u - nI am)) EX) (hq : fw_Q qf qs a13 a14 Q n M) (hm : fw_pa s t e v am LF EX Q n M k = true)
    (hp : ∀ (qs' : Int32) (a5' a11' a13' a14' : Nat → Int32) (LF' EX' Q' n' M' : Nat), fw_A E a5' LF' → fw_X s a11' EX' → fw_Q qf qs' a13' a14' Q' n' M' → k LF' EX' Q' n' M' = true → post (pr, nI s, nI t, ed, fl, qf, qs', oc, a1, a2, a3, a4, a5', a6, a7, a8, a9, a10, a11', a12, a13', a14', a15, a16, a17, a18, a19)) :
    wpX_pushAlong post (pr, nI s, nI t, ed, fl, qf, qs, oc, a1, a2, a3, a4, a5, a6, a7, a8, a9, a10, a11, a12, a13, a14, a15, a16, a17, a18, a19) x y z := by
  subst ex
  subst ey
  subst ez
  have ham := fw_mv_le hm
  have i1 : vp_in (nI u) 16 := pk_in u 16 hu
  have i2 : vp_in (nI v) 16 := pk_in v 16 hv
  refine ⟨pk_in e 56 (by omega), nm_r (fw_rd h4 (by omega)) (fw_mv_w rfl rfl h5 hE he hx hm (fun a5' LF' h5' hm' => ⟨i1, i1, nm_r (fw_ud (y := a11 u - nI am) (by omega) (by rw [fw_cl (by omega)])) ⟨i2, i2, ?_⟩⟩))⟩
  rcases fw_ifE hm' with ⟨c, hm1⟩ | ⟨c, hm'⟩
  · have c := fw_eq c
    subst c
    refine nm_r (fw_ud (y := upd a11 u (a11 u - nI am) v + nI am) (by omega) (by rw [fw_cl (by omega)])) ?_
    have P := hp _ _ _ _ _ _ _ _ _ _ h5' (fw_Xs hX (upd a11 u (a11 u - nI am) v + nI am)) hq hm1
    exact br_c (fun _ => P) (fun _ => br_t rfl P)
  · have c := fw_ne c
    obtain ⟨c1, hm'⟩ := fw_ifA hm'
    have c1 : fw_g EX v + am ≤ 255 := fw_le c1
    refine nm_r (fw_ud (y := nI (Nat.add (fw_g EX v) am)) (by omega) (by rw [fw_cl (by omega), hX v hv c, nI_add]; rfl)) ?_
    have hX' := fw_Xu hX v (show Nat.add (fw_g EX v) am < 256 by show fw_g EX v + am < 256; omega)
    rcases fw_ifE hm' with ⟨c2, hm'⟩ | ⟨c2, hm'⟩
    · have c2 := fw_eq c2
      exact br_t (by rw [c2]; decide) (hp _ _ _ _ _ _ _ _ _ _ h5' hX' hq hm')
    · have c2 := fw_ne c2
      refine br_f (nI_nle (by omega) (by omega)) (br_f (by rw [nI_eq (by omega) (by omega)]; exact c) ?_)
      rcases fw_ifE hm' with ⟨c3, hm'⟩ | ⟨c3, hm'⟩
      · have c3 := fw_eq c3
        exact br_t (by rw [c3]) (hp _ _ _ _ _ _ _ _ _ _ h5' hX' hq hm')
      · have c3 := fw_ne c3
        exact br_f (by rw [nI_eq (by omega) (by omega)]; exact c3) (fw_enq_w hq hv hm' (fun qs' a13' a14' Q' n' M' hq' hm'' => hp _ _ _ _ _ _ _ _ _ _ h5' hX' hq' hm''))
end
noncomputable def fw_sp (s t : Nat) (k : Nat → Nat → Nat → Nat → Nat → Bool) (L : List (Nat × Nat)) : Nat → Nat → Nat → Nat → Nat → Bool :=
  @List.rec (Nat × Nat) (fun _ => Nat → Nat → Nat → Nat → Nat → Bool) k (fun p _ ih LF EX Q n M => fw_pa s t p.1 p.2 (fw_g LF p.1) LF EX Q n M ih) L
noncomputable def fw_dis (s t u LV : Nat) (k : Nat → Nat → Nat → Nat → Nat → Bool) (L : List (Nat × Nat)) : Nat → Nat → Nat → Nat → Nat → Bool :=
  @List.rec (Nat × Nat) (fun _ => Nat → Nat → Nat → Nat → Nat → Bool) k
    (fun p _ ih LF EX Q n M => (fun x l => fw_if (Nat.beq x 0) (k LF EX Q n M) (fw_if (Nat.beq l 0) (ih LF EX Q n M) (fw_if (Nat.beq (fw_g LV u) (Nat.succ (fw_g LV p.2)))
      (fw_if (Nat.ble x l) (fw_pa s t p.1 p.2 x LF (fw_s EX u (Nat.sub x x)) Q n M ih) (fw_pa s t p.1 p.2 l LF (fw_s EX u (Nat.sub x l)) Q n M ih)) (ih LF EX Q n M)))) (fw_g EX u) (fw_g LF p.1)) L
section
variable {pr so si ed fl qf oc : Int32} {a1 a2 a3 a4 a6 a7 a8 a9 a10 a12 a15 a16 a17 a18 a19 : Nat → Int32}
theorem fw_sp_w {post : St2 → Prop} {s t E : Nat} {k : Nat → Nat → Nat → Nat → Nat → Bool} (hE : E ≤ 56) (hs : s < 16) (ht : t < 16)
    (hp : ∀ (qs' : Int32) (a5' a11' a13' a14' : Nat → Int32) (LF' EX' Q' n' M' : Nat), fw_A E a5' LF' → fw_X s a11' EX' → fw_Q qf qs' a13' a14' Q' n' M' → k LF' EX' Q' n' M' = true → post (pr, nI s, nI t, ed, fl, qf, qs', oc, a1, a2, a3, a4, a5', a6, a7, a8, a9, a10, a11', a12, a13', a14', a15, a16, a17, a18, a19)) :
    ∀ (L : List (Nat × Nat)) (x : Int32) (LF EX Q n M : Nat) (qs : Int32) (a5 a11 a13 a14 : Nat → Int32), fw_Ch a4 a7 s E L x → fw_A E a5 LF → fw_X s a11 EX → fw_Q qf qs a13 a14 Q n M → fw_sp s t k L LF EX Q n M = true →
      wX_startPushing_91 post (L.length + 1) x pr (nI s) (nI t) ed fl qf qs oc a1 a2 a3 a4 a5 a6 a7 a8 a9 a10 a11 a12 a13 a14 a15 a16 a17 a18 a19 := by
  intro L
  induction L with
  | nil =>
    intro x LF EX Q n M qs a5 a11 a13 a14 hc h5 hX hq hm
    have hx : x = -1 := hc
    subst hx
    exact br_t (by decide) (hp _ _ _ _ _ _ _ _ _ _ h5 hX hq hm)
  | cons p L ih =>
    intro x LF EX Q n M qs a5 a11 a13 a14 hc h5 hX hq hm
    obtain ⟨hx, he, hx1, h4, hv, _, hc⟩ := hc
    subst hx
    have i1 : vp_in (nI p.1) 56 := pk_in p.1 56 (by omega)
    exact br_f (nI_pos (by omega)) ⟨i1, fw_pa_w rfl rfl (fw_rd (h5 _ he) (by omega)) h5 hE he hx1 h4 hv hs hs ht (fw_Xs hX _) hq hm (fun qs' a5' a11' a13' a14' LF' EX' Q' n' M' h5' hX' hq' hm' => ⟨i1, nm_r (fw_rd rfl (by omega)) (ih _ _ _ _ _ _ _ _ _ _ _ hc h5' hX' hq' hm')⟩)⟩
theorem fw_dis_w {post : St2 → Prop} {s t u E LV : Nat} {k : Nat → Nat → Nat → Nat → Nat → Bool} (hE : E ≤ 56) (hs : s < 16) (ht : t < 16) (hu : u < 16) (hus : u ≠ s) (h8 : fw_A 16 a8 LV)
    (hp : ∀ (qs' : Int32) (a5' a11' a13' a14' : Nat → Int32) (LF' EX' Q' n' M' : Nat), fw_A E a5' LF' → fw_X s a11' EX' → fw_Q qf qs' a13' a14' Q' n' M' → k LF' EX' Q' n' M' = true → post (pr, nI s, nI t, ed, fl, qf, qs', oc, a1, a2, a3, a4, a5', a6, a7, a8, a9, a10, a11', a12, a13', a14', a15, a16, a17, a18, a19)) :
    ∀ (L : List (Nat × Nat)) (x : Int32) (LF EX Q n M : Nat) (qs : Int32) (a5 a11 a13 a14 : Nat → Int32), fw_Ch a4 a7 u E L x → fw_A E a5 LF → fw_X s a11 EX → fw_Q qf qs a13 a14 Q n M → fw_dis s t u LV k L LF EX Q n M = true →
      wX_discharge_7 post (nI u) (L.length + 1) x pr (nI s) (nI t) ed fl qf qs oc a1 a2 a3 a4 a5 a6 a7 a8 a9 a10 a11 a12 a13 a14 a15 a16 a17 a18 a19 := by
  intro L
  induction L with
  | nil =>
    intro x LF EX Q n M qs a5 a11 a13 a14 hc h5 hX hq hm
    have hx : x = -1 := hc
    subst hx
    exact br_t (by decide) (hp _ _ _ _ _ _ _ _ _ _ h5 hX hq hm)
  | cons p L ih =>
    intro x LF EX Q n M qs a5 a11 a13 a14 hc h5 hX hq hm
    obtain ⟨hx, he, hx1, h4, hv, _, hc⟩ := hc
    subst hx
    have i1 : vp_in (nI p.1) 56 := pk_in p.1 56 (by omega)
    have iu : vp_in (nI u) 16 := pk_in u 16 hu
    have iv : vp_in (nI p.2) 16 := pk_in p.2 16 hv
    have r11 : a11 (nI u).toNatClampNeg = nI (fw_g EX u) := fw_rd (hX u hu hus) (by omega)
    have r5 : a5 (nI p.1).toNatClampNeg = nI (fw_g LF p.1) := fw_rd (h5 _ he) (by omega)
    have r4 : a4 (nI p.1).toNatClampNeg = nI p.2 := fw_rd h4 (by omega)
    have r7 : a7 (nI p.1).toNatClampNeg = a7 p.1 := fw_rd rfl (by omega)
    have r8 : a8 (nI u).toNatClampNeg = nI (fw_g LV u) := fw_rd (h8 u hu) (by omega)
    have r8v : a8 (nI p.2).toNatClampNeg + 1 = nI (fw_g LV p.2 + 1) := by rw [fw_cl (by omega), h8 _ hv, nI_1]
    have g1 := fw_g_lt EX u
    have g2 := fw_g_lt LF p.1
    have g3 := fw_g_lt LV u
    have g4 := fw_g_lt LV p.2
    refine br_f (nI_pos (by omega)) ⟨iu, ?_⟩
    rcases fw_ifE hm with ⟨c, hm⟩ | ⟨c, hm⟩
    · have c := fw_eq c
      exact br_t (by rw [r11, c]; decide) (hp _ _ _ _ _ _ _ _ _ _ h5 hX hq hm)
    · have c := fw_ne c
      refine br_f (by rw [r11]; exact nI_nle (by omega) (by omega)) ⟨i1, nm_r r4 ⟨i1, ?_⟩⟩
      rcases fw_ifE hm with ⟨c1, hm⟩ | ⟨c1, hm⟩
      · have c1 := fw_eq c1
        exact br_t (by rw [r5, c1]; decide) ⟨i1, nm_r r7 (ih _ _ _ _ _ _ _ _ _ _ _ hc h5 hX hq hm)⟩
      · have c1 := fw_ne c1
        refine br_f (by rw [r5]; exact nI_nle (by omega) (by omega)) ⟨iu, iv, ?_⟩
        rcases fw_ifE hm with ⟨c2, hm⟩ | ⟨c2, hm⟩
        · have c2 := fw_eq c2
          refine br_t (by rw [r8, r8v, c2]) ⟨i1, iu, ?_⟩
          have push : ∀ (am : Nat), am ≤ fw_g EX u → fw_pa s t p.1 p.2 am LF (fw_s EX u (Nat.sub (fw_g EX u) am)) Q n M (fw_dis s t u LV k L) = true → ∀ (z : Int32), z = nI am → wX_discharge_83 post (wX_discharge_7 post (nI u) (L.length + 1)) (nI u) (nI p.1) z pr (nI s) (nI t) ed fl qf qs oc a1 a2 a3 a4 a5 a6 a7 a8 a9 a10 a11 a12 a13 a14 a15 a16 a17 a18 a19 := by
            intro am ha hm z ez
            refine fw_pa_w rfl rfl ez h5 hE he hx1 h4 hv hu hs ht ?_ hq hm (fun qs' a5' a11' a13' a14' LF' EX' Q' n' M' h5' hX' hq' hm' => ⟨i1, nm_r r7 (ih _ _ _ _ _ _ _ _ _ _ _ hc h5' hX' hq' hm')⟩)
            rw [hX u hu hus, pk_sub ha]
            exact fw_Xu hX u (by show fw_g EX u - am < 256; omega)
          rcases fw_ifE hm with ⟨c3, hm⟩ | ⟨c3, hm⟩
          · have c3 := fw_le c3
            exact br_t (by rw [r11, r5]; exact nI_le c3 (by omega)) ⟨iu, push _ (Nat.le_refl _) hm _ r11⟩
          · have c3 := fw_gt c3
            exact br_f (by rw [r11, r5]; exact nI_ge c3 (by omega)) ⟨i1, push _ (by omega) hm _ r5⟩
        · have c2 := fw_ne c2
          exact br_f (by rw [r8, r8v, nI_eq (by omega) (by omega)]; exact c2) ⟨i1, nm_r r7 (ih _ _ _ _ _ _ _ _ _ _ _ hc h5 hX hq hm)⟩
end
noncomputable def fw_start (adj : Nat → List (Nat × Nat)) (s t LF : Nat) (k : Nat → Nat → Nat → Nat → Nat → Bool) : Bool := fw_sp s t k (adj s) LF 0 0 0 0
/-- the heights when all stand on the ground but the source -/
def fw_H0 : Nat := fw_s (fw_s 0 0 15) 16 1
section
variable {pr so si ed fl qf qs oc : Int32} {a1 a2 a3 a4 a5 a6 a7 a8 a9 a10 a11 a12 a13 a14 a15 a16 a17 a18 a19 : Nat → Int32}
theorem fw_start_w {post : St2 → Prop} {adj : Nat → List (Nat × Nat)} {TO NX FS s t E LF : Nat} {k : Nat → Nat → Nat → Nat → Nat → Bool} (hN : fw_Net adj TO NX FS E a4 a6 a7) (hs : s < 16) (ht : t < 16) (h5 : fw_A E a5 LF) (hm : fw_start adj s t LF k = true)
    (hp : ∀ (qf' qs' : Int32) (a5' a8' a11' a12' a13' a14' : Nat → Int32) (LF' EX' Q' n' M' : Nat), fw_A E a5' LF' → fw_A 16 a8' (fw_s 0 s 16) → fw_A 64 a12' fw_H0 → fw_X s a11' EX' → fw_Q qf' qs' a13' a14' Q' n' M' → k LF' EX' Q' n' M' = true → post (pr, nI s, nI t, ed, fl, qf', qs', oc, a1, a2, a3, a4, a5', a6, a7, a8', a9, a10, a11', a12', a13', a14', a15, a16, a17, a18, a19)) :
    wpX_startPushing post (pr, nI s, nI t, ed, fl, qf, qs, oc, a1, a2, a3, a4, a5, a6, a7, a8, a9, a10, a11, a12, a13, a14, a15, a16, a17, a18, a19) := by
  unfold wpX_startPushing
  refine fw_clr_w (fun qf' qs' a14' hq => ?_)
  refine pk_loop (fun f i a => wX_startPushing_6 post pr (nI s) (nI t) ed fl qf' qs' oc f (nI i) a1 a2 a3 a4 a5 a6 a7 a8 a9 a10 a11 a a13 a14' a15 a16 a17 a18 a19) (fun i a => ∀ j, j < i → a j = 0) 64 0 a12 (by omega) (fun j hj => absurd hj (by omega)) ?_ ?_
  · intro f b h
    refine pk_le 64 64 (fun _ => ?_) (fun z => absurd z (by omega))
    refine pk_loop (fun f i a => wX_startPushing_27 post pr (nI s) (nI t) ed fl qf' qs' oc f (nI i) a1 a2 a3 a4 a5 a6 a7 (a.1) a9 a10 (a.2.1) (a.2.2) a13 a14' a15 a16 a17 a18 a19)
      (fun i a => (∀ j, j < i → a.1 j = nI (if j = s then 16 else 0)) ∧ (∀ j, j < i → a.2.1 j = 0) ∧ a.2.2 0 = nI (if s < i then i - 1 else i) ∧ a.2.2 16 = nI (if s < i then 1 else 0) ∧ ∀ j, j < 64 → j ≠ 0 → j ≠ 16 → a.2.2 j = 0) 16 0 (a8, a11, b) (by omega)
      ⟨fun j hj => absurd hj (by omega), fun j hj => absurd hj (by omega), h 0 (by omega), h 16 (by omega), fun j hj _ _ => h j hj⟩ ?_ ?_
    · intro f a ha
      obtain ⟨h8, h11, h0, h16, hj⟩ := ha
      refine pk_le 16 16 (fun _ => ?_) (fun z => absurd z (by omega))
      refine ⟨pk_in s 16 hs, nm_r (fw_rd rfl (by omega)) ⟨_, fw_sp_w hN.1 hs ht (fun qs'' a5'' a11'' a13'' a14'' LF'' EX'' Q'' n'' M'' h5'' hX'' hq'' hm'' => hp _ _ _ _ _ _ _ _ _ _ _ _ _ h5'' ?_ ?_ hX'' hq'' hm'') (adj s) _ LF 0 0 0 0 _ _ _ _ _ (hN.2.1 s hs) h5 ?_ hq hm⟩⟩
      · intro j hj
        rw [h8 j hj, fw_g_e _ _ _ (by omega), fw_g_0]
      · intro j hj'
        unfold fw_H0
        rw [fw_g_e _ _ _ (by omega), fw_g_e _ _ _ (by omega), fw_g_0]
        by_cases e1 : j = 16
        · rw [if_pos e1, e1, h16, if_pos hs]
        · rw [if_neg e1]
          by_cases e2 : j = 0
          · rw [if_pos e2, e2, h0, if_pos hs]
          · rw [if_neg e2, hj j hj' e2 e1]
            rfl
      · intro j hj' _
        rw [h11 j hj', fw_g_0]
        rfl
    · intro f i a hi ha hw
      obtain ⟨h8, h11, h0, h16, hj⟩ := ha
      have ii : vp_in (nI i) 16 := pk_in i 16 hi
      refine pk_le 16 i (fun z => absurd z (by omega)) (fun _ => ⟨ii, nm_r (fw_ud (y := 0) (by omega) rfl) ?_⟩)
      have u11 : ∀ j, j < i + 1 → upd a.2.1 i 0 j = 0 := by
        intro j hj'
        by_cases e : j = i
        · rw [e, pk_us]
        · rw [pk_un e]
          exact h11 j (by omega)
      by_cases es : i = s
      · subst es
        refine br_t rfl ⟨ii, nm_r (fw_ud (y := nI 16) (by omega) rfl) ?_⟩
        have r8 : upd a.1 i (nI 16) (nI i).toNatClampNeg = nI 16 := fw_rd pk_us (by omega)
        refine ⟨ii, pk_in 16 64 (by omega) r8, pk_in 16 64 (by omega) r8, nm_r (e' := upd a.2.2 16 (nI 1)) ?_ (nm_r (nI_1 i) (hw (upd a.1 i (nI 16), upd a.2.1 i 0, upd a.2.2 16 (nI 1)) ⟨?_, u11, ?_, ?_, ?_⟩))⟩
        · rw [r8, fw_cl (by omega), h16, if_neg (by omega)]
          rfl
        · intro j hj'
          show upd a.1 i (nI 16) j = _
          by_cases e : j = i
          · rw [e, pk_us, if_pos rfl]
          · rw [pk_un e]
            exact h8 j (by omega)
        · show upd a.2.2 16 (nI 1) 0 = _
          rw [pk_un (by omega), h0, if_neg (by omega), if_pos (by omega)]
          rfl
        · show upd a.2.2 16 (nI 1) 16 = _
          rw [pk_us, if_pos (by omega)]
        · intro j h1 h2 h3
          show upd a.2.2 16 (nI 1) j = _
          rw [pk_un h3]
          exact hj j h1 h2 h3
      · refine br_f (by rw [nI_eq (by omega) (by omega)]; exact es) ⟨ii, nm_r (fw_ud (y := nI 0) (by omega) rfl) ?_⟩
        have r8 : upd a.1 i (nI 0) (nI i).toNatClampNeg = nI 0 := fw_rd pk_us (by omega)
        refine ⟨ii, pk_in 0 64 (by omega) r8, pk_in 0 64 (by omega) r8, nm_r (e' := upd a.2.2 0 (nI (if s < i + 1 then i + 1 - 1 else i + 1))) ?_ (nm_r (nI_1 i) (hw (upd a.1 i (nI 0), upd a.2.1 i 0, upd a.2.2 0 (nI (if s < i + 1 then i + 1 - 1 else i + 1))) ⟨?_, u11, ?_, ?_, ?_⟩))⟩
        · rw [r8, fw_cl (by omega), h0, nI_1]
          by_cases e : s < i
          · rw [if_pos e, if_pos (by omega), show i - 1 + 1 = i + 1 - 1 by omega]
          · rw [if_neg e, if_neg (by omega)]
        · intro j hj'
          show upd a.1 i (nI 0) j = _
          by_cases e : j = i
          · rw [e, pk_us, if_neg es]
          · rw [pk_un e]
            exact h8 j (by omega)
        · show upd a.2.2 0 (nI (if s < i + 1 then i + 1 - 1 else i + 1)) 0 = nI (if s < i + 1 then i + 1 - 1 else i + 1)
          exact pk_us
        · show upd a.2.2 0 (nI (if s < i + 1 then i + 1 - 1 else i + 1)) 16 = _
          rw [pk_un (by omega), h16]
          by_cases e : s < i
          · rw [if_pos e, if_pos (by omega)]
          · rw [if_neg e, if_neg (by omega)]
        · intro j h1 h2 h3
          show upd a.2.2 0 (nI (if s < i + 1 then i + 1 - 1 else i + 1)) j = _
          rw [pk_un h2]
          exact hj j h1 h2 h3
  · intro f i a hi h hw
    refine pk_le 64 i (fun z => absurd z (by omega)) (fun _ => ⟨pk_in i 64 hi, nm_r (fw_ud (y := 0) (by omega) rfl) (nm_r (nI_1 i) (hw _ (fun j hj => ?_)))⟩)
    by_cases e : j = i
    · rw [e, pk_us]
    · rw [pk_un e]
      exact h j (by omega)
end
end
section
/-! engines 2 and 3: rising, the rounds -/
noncomputable def fw_rs (LF LV : Nat) (k : Nat → Bool) (L : List (Nat × Nat)) : Nat → Bool :=
  @List.rec (Nat × Nat) (fun _ => Nat → Bool) k (fun p _ ih lo => fw_if (Nat.beq (fw_g LF p.1) 0) (ih lo) ((fun h => fw_if (Nat.ble lo h) (ih lo) (ih h)) (fw_g LV p.2))) L
noncomputable def fw_lift (u l lo LV H : Nat) (k : Nat → Nat → Bool) : Bool :=
  fw_if (Nat.ble l 63) ((fun h => fw_if (Nat.beq h 0) false ((fun H => (fun h => fw_if (Nat.ble h 255) (k (fw_s LV u lo) (fw_s H lo h)) false) (Nat.succ (fw_g H lo))) (fw_s H l (Nat.pred h)))) (fw_g H l)) false
noncomputable def fw_raise (adj : Nat → List (Nat × Nat)) (u LF LV H : Nat) (k : Nat → Nat → Bool) : Bool :=
  fw_rs LF LV (fun lo => fw_lift u (fw_g LV u) (Nat.succ lo) LV H k) (adj u) 32
section
variable {pr so si ed fl qf qs oc : Int32} {a1 a2 a3 a4 a5 a6 a7 a8 a9 a10 a11 a12 a13 a14 a15 a16 a17 a18 a19 : Nat → Int32}
theorem fw_rs_w {post : St2 → Prop} {u E LF LV : Nat} {k : Nat → Bool} (hE : E ≤ 56) (h5 : fw_A E a5 LF) (h8 : fw_A 16 a8 LV)
    (hp : ∀ (lo : Nat), lo ≤ 32 → k lo = true → wX_raise_10 post (nI u) pr so si ed fl qf qs oc a1 a2 a3 a4 a5 a6 a7 a8 a9 a10 a11 a12 a13 a14 a15 a16 a17 a18 a19 1 (nI lo) (-1)) :
    ∀ (L : List (Nat × Nat)) (x : Int32) (lo : Nat), fw_Ch a4 a7 u E L x → lo ≤ 32 → fw_rs LF LV k L lo = true → wX_raise_10 post (nI u) pr so si ed fl qf qs oc a1 a2 a3 a4 a5 a6 a7 a8 a9 a10 a11 a12 a13 a14 a15 a16 a17 a18 a19 (L.length + 1) (nI lo) x := by
  intro L
  induction L with
  | nil =>
    intro x lo hc hl hm
    have hx : x = -1 := hc
    subst hx
    exact hp lo hl hm
  | cons p L ih =>
    intro x lo hc hl hm
    obtain ⟨hx, he, hx1, h4, hv, _, hc⟩ := hc
    subst hx
    have i1 : vp_in (nI p.1) 56 := pk_in p.1 56 (by omega)
    have iv : vp_in (nI p.2) 16 := pk_in p.2 16 hv
    have r5 : a5 (nI p.1).toNatClampNeg = nI (fw_g LF p.1) := fw_rd (h5 _ he) (by omega)
    have r4 : a4 (nI p.1).toNatClampNeg = nI p.2 := fw_rd h4 (by omega)
    have r7 : a7 (nI p.1).toNatClampNeg = a7 p.1 := fw_rd rfl (by omega)
    have r8 : a8 (nI p.2).toNatClampNeg = nI (fw_g LV p.2) := fw_rd (h8 _ hv) (by omega)
    have g2 := fw_g_lt LF p.1
    have g4 := fw_g_lt LV p.2
    refine br_f (nI_pos (by omega)) ⟨i1, nm_r r4 ⟨i1, ?_⟩⟩
    rcases fw_ifE hm with ⟨c, hm⟩ | ⟨c, hm⟩
    · have c := fw_eq c
      exact br_t (by rw [r5, c]; decide) ⟨i1, nm_r r7 (ih _ _ hc hl hm)⟩
    · have c := fw_ne c
      refine br_f (by rw [r5]; exact nI_nle (by omega) (by omega)) ⟨iv, ?_⟩
      rcases fw_ifE hm with ⟨c2, hm⟩ | ⟨c2, hm⟩
      · have c2 := fw_le c2
        exact br_t (by rw [r8]; exact nI_le c2 (by omega)) ⟨i1, nm_r r7 (ih _ _ hc hl hm)⟩
      · have c2 := fw_gt c2
        exact br_f (by rw [r8]; exact nI_ge c2 (by omega)) ⟨iv, nm_r r8 ⟨i1, nm_r r7 (ih _ _ hc (by omega) hm)⟩⟩
theorem fw_raise_w {post : St2 → Prop} {x : Int32} {adj : Nat → List (Nat × Nat)} {TO NX FS E u LF LV H : Nat} {k : Nat → Nat → Bool} (ex : x = nI u) (hN : fw_Net adj TO NX FS E a4 a6 a7) (hu : u < 16) (h5 : fw_A E a5 LF) (h8 : fw_A 16 a8 LV) (h12 : fw_A 64 a12 H)
    (hm : fw_raise adj u LF LV H k = true)
    (hp : ∀ (a8' a12' : Nat → Int32) (LV' H' : Nat), fw_A 16 a8' LV' → fw_A 64 a12' H' → k LV' H' = true → post (pr, so, si, ed, fl, qf, qs, oc, a1, a2, a3, a4, a5, a6, a7, a8', a9, a10, a11, a12', a13, a14, a15, a16, a17, a18, a19)) :
    wpX_raise post (pr, so, si, ed, fl, qf, qs, oc, a1, a2, a3, a4, a5, a6, a7, a8, a9, a10, a11, a12, a13, a14, a15, a16, a17, a18, a19) x := by
  subst ex
  have iu : vp_in (nI u) 16 := pk_in u 16 hu
  refine ⟨iu, nm_r (fw_rd rfl (by omega)) ⟨_, fw_rs_w hN.1 h5 h8 (fun lo hl hm' => ?_) (adj u) _ 32 (hN.2.1 u hu) (by omega) hm⟩⟩
  obtain ⟨c, hm'⟩ := fw_ifA hm'
  obtain ⟨c1, hm'⟩ := fw_ifN hm'
  obtain ⟨c2, hm'⟩ := fw_ifA hm'
  have c := fw_le c
  have c1 := fw_ne c1
  have c2 := fw_le c2
  have r8 : a8 (nI u).toNatClampNeg = nI (fw_g LV u) := fw_rd (h8 u hu) (by omega)
  have i8 : vp_in (a8 (nI u).toNatClampNeg) 64 := pk_in _ 64 (by omega) r8
  have g1 := fw_g_lt H (fw_g LV u)
  have b1 : Nat.pred (fw_g H (fw_g LV u)) < 256 := by rw [Nat.pred_eq_sub_one]; omega
  have h12' := fw_Au h12 (fw_g LV u) b1
  have r8' : upd a8 u (nI (Nat.succ lo)) (nI u).toNatClampNeg = nI (Nat.succ lo) := fw_rd pk_us (by omega)
  have i8' : vp_in (upd a8 u (nI (Nat.succ lo)) (nI u).toNatClampNeg) 64 := pk_in _ 64 (by omega) r8'
  refine br_t (by decide) ⟨iu, i8, i8, nm_r (e' := upd a12 (fw_g LV u) (nI (Nat.pred (fw_g H (fw_g LV u))))) ?_ ⟨iu, nm_r (fw_ud (y := nI (Nat.succ lo)) (by omega) (nI_1 lo)) ⟨iu, i8', i8', nm_r (e' := upd (upd a12 (fw_g LV u) (nI (Nat.pred (fw_g H (fw_g LV u))))) (Nat.succ lo) (nI (Nat.succ (fw_g (fw_s H (fw_g LV u) (Nat.pred (fw_g H (fw_g LV u)))) (Nat.succ lo))))) ?_ (hp _ _ _ _ (fw_Au h8 u (by omega)) (fw_Au h12' _ (by omega)) hm')⟩⟩⟩
  · rw [r8, fw_cl (by omega), h12 _ (by omega)]
    obtain ⟨m, e⟩ : ∃ m, fw_g H (fw_g LV u) = m + 1 := ⟨fw_g H (fw_g LV u) - 1, by omega⟩
    rw [e, nI_pred]
    rfl
  · rw [r8', fw_cl (by omega), h12' _ (by omega), nI_1]
end
noncomputable def fw_r2 (adj : Nat → List (Nat × Nat)) (s t : Nat) (k : Nat → Nat → Bool) (F : Nat) : Nat → Nat → Nat → Nat → Nat → Nat → Nat → Bool :=
  @Nat.rec (fun _ => Nat → Nat → Nat → Nat → Nat → Nat → Nat → Bool) (fun _ _ _ _ _ _ _ => false)
    (fun _ ih LV H LF EX Q n M => fw_if (Nat.beq n 0) (k LF (fw_g EX t)) (fw_deq Q n M (fun u Q n M => fw_if (Nat.beq u s) false (fw_dis s t u LV
      (fun LF EX Q n M => fw_if (Nat.beq (fw_g EX u) 0) (ih LV H LF EX Q n M) (fw_raise adj u LF LV H (fun LV H => fw_enq Q n M u (fun Q n M => ih LV H LF EX Q n M)))) (adj u) LF EX Q n M)))) F
noncomputable def fw_e2 (adj : Nat → List (Nat × Nat)) (s t F LF : Nat) (k : Nat → Nat → Bool) : Bool :=
  fw_start adj s t LF (fun LF EX Q n M => fw_r2 adj s t k F (fw_s 0 s 16) fw_H0 LF EX Q n M)
section
variable {pr so si ed fl oc : Int32} {a1 a2 a3 a4 a6 a7 a9 a10 a15 a16 a17 a18 a19 : Nat → Int32}
theorem fw_r2_w {post : St2 → Prop} {adj : Nat → List (Nat × Nat)} {TO NX FS E s t : Nat} {k : Nat → Nat → Bool} (hN : fw_Net adj TO NX FS E a4 a6 a7) (hs : s < 16) (ht : t < 16) (hst : t ≠ s)
    (hp : ∀ (fl' qf' qs' : Int32) (a5' a8' a11' a12' a13' a14' : Nat → Int32) (LF' n' : Nat), fw_A E a5' LF' → fl' = nI n' → k LF' n' = true → post (pr, nI s, nI t, ed, fl', qf', qs', oc, a1, a2, a3, a4, a5', a6, a7, a8', a9, a10, a11', a12', a13', a14', a15, a16, a17, a18, a19)) :
    ∀ (F r LV H LF EX Q n M : Nat) (qf qs : Int32) (a5 a8 a11 a12 a13 a14 : Nat → Int32), r + F ≤ 100000 → fw_A 16 a8 LV → fw_A 64 a12 H → fw_A E a5 LF → fw_X s a11 EX → fw_Q qf qs a13 a14 Q n M → fw_r2 adj s t k F LV H LF EX Q n M = true →
      wX_solveByPushingInTurn_6 post F (nI r) pr (nI s) (nI t) ed fl qf qs oc a1 a2 a3 a4 a5 a6 a7 a8 a9 a10 a11 a12 a13 a14 a15 a16 a17 a18 a19 := by
  intro F
  induction F with
  | zero =>
    intro r LV H LF EX Q n M qf qs a5 a8 a11 a12 a13 a14 _ _ _ _ _ _ hm
    exact absurd hm (by intro z; cases z)
  | succ F ih =>
    intro r LV H LF EX Q n M qf qs a5 a8 a11 a12 a13 a14 hr h8 h12 h5 hX hq hm
    have hqs : qs = nI n ∧ n < 64 := by
      obtain ⟨f, _, _, h2, hn, _⟩ := hq
      exact ⟨h2, hn⟩
    refine br_f (nI_ge (b := 100000) (by omega) (by decide)) ?_
    rcases fw_ifE hm with ⟨c, hm⟩ | ⟨c, hm⟩
    · have c := fw_eq c
      exact br_t (by rw [hqs.1, c]; decide) ⟨pk_in t 16 ht, nm_r (fw_rd (hX t ht hst) (by omega)) (hp _ _ _ _ _ _ _ _ _ _ _ h5 rfl hm)⟩
    · have c := fw_ne c
      refine br_f (by rw [hqs.1]; exact nI_nle (by omega) (by omega)) (fw_deq_w hq c hm (fun qf' qs' a14' u Q' n' M' hu hq' hm' => ?_))
      obtain ⟨c1, hm'⟩ := fw_ifN hm'
      have c1 := fw_ne c1
      refine ⟨pk_in u 16 hu, nm_r (fw_rd rfl (by omega)) ⟨_, fw_dis_w hN.1 hs ht hu c1 h8 (fun qs2 a52 a112 a132 a142 LF2 EX2 Q2 n2 M2 h52 hX2 hq2 hm2 => ?_) (adj u) _ LF EX Q' n' M' _ _ _ _ _ (hN.2.1 u hu) h5 hX hq' hm'⟩⟩
      have r11 : a112 (nI u).toNatClampNeg = nI (fw_g EX2 u) := fw_rd (hX2 u hu c1) (by omega)
      have g1 := fw_g_lt EX2 u
      refine ⟨pk_in u 16 hu, ?_⟩
      rcases fw_ifE hm2 with ⟨c2, hm2⟩ | ⟨c2, hm2⟩
      · have c2 := fw_eq c2
        exact br_t (by rw [r11, c2]; decide) (nm_r (nI_1 r) (ih _ _ _ _ _ _ _ _ _ _ _ _ _ _ _ _ (by omega) h8 h12 h52 hX2 hq2 hm2))
      · have c2 := fw_ne c2
        refine br_f (by rw [r11]; exact nI_nle (by omega) (by omega)) (fw_raise_w rfl hN hu h52 h8 h12 hm2 (fun a83 a123 LV3 H3 h83 h123 hm3 => ?_))
        exact fw_enq_w hq2 hu hm3 (fun qs4 a134 a144 Q4 n4 M4 hq4 hm4 => nm_r (nI_1 r) (ih _ _ _ _ _ _ _ _ _ _ _ _ _ _ _ _ (by omega) h83 h123 h52 hX2 hq4 hm4))
end
section
variable {pr so si ed fl qf qs oc : Int32} {a1 a2 a3 a4 a5 a6 a7 a8 a9 a10 a11 a12 a13 a14 a15 a16 a17 a18 a19 : Nat → Int32}
theorem fw_e2_w {post : St2 → Prop} {adj : Nat → List (Nat × Nat)} {TO NX FS E s t F LF : Nat} {k : Nat → Nat → Bool} (hN : fw_Net adj TO NX FS E a4 a6 a7) (hs : s < 16) (ht : t < 16) (hst : t ≠ s) (hF : F ≤ 100000) (h5 : fw_A E a5 LF)
    (hm : fw_e2 adj s t F LF k = true)
    (hp : ∀ (fl' qf' qs' : Int32) (a5' a8' a11' a12' a13' a14' : Nat → Int32) (LF' n' : Nat), fw_A E a5' LF' → fl' = nI n' → k LF' n' = true → post (pr, nI s, nI t, ed, fl', qf', qs', oc, a1, a2, a3, a4, a5', a6, a7, a8', a9, a10, a11', a12', a13', a14', a15, a16, a17, a18, a19)) :
    wpX_solveByPushingInTurn post (pr, nI s, nI t, ed, fl, qf, qs, oc, a1, a2, a3, a4, a5, a6, a7, a8, a9, a10, a11, a12, a13, a14, a15, a16, a17, a18, a19) := by
  unfold wpX_solveByPushingInTurn
  exact fw_start_w hN hs ht h5 hm (fun qf' qs' a5' a8' a11' a12' a13' a14' LF' EX' Q' n' M' h5' h8' h12' hX' hq' hm' => ⟨F, fw_r2_w hN hs ht hst hp F 0 _ _ _ _ _ _ _ _ _ _ _ _ _ _ _ (by omega) h8' h12' h5' hX' hq' hm'⟩)
end
/-! the highest node, gaps -/
noncomputable def fw_hi (s t EX LV : Nat) (k : Nat → Bool) (F : Nat) : Nat → Nat → Bool :=
  @Nat.rec (fun _ => Nat → Nat → Bool) (fun _ b => k b)
    (fun _ ih i b => fw_if (Nat.beq (fw_g EX i) 0) (ih (Nat.succ i) b) (fw_if (Nat.beq i s) (ih (Nat.succ i) b) (fw_if (Nat.beq i t) (ih (Nat.succ i) b) (fw_if (Nat.beq b 0) (ih (Nat.succ i) (Nat.succ i)) (fw_if (Nat.ble (fw_g LV i) (fw_g LV (Nat.pred b))) (ih (Nat.succ i) b) (ih (Nat.succ i) (Nat.succ i))))))) F
section
variable {pr so si ed fl qf qs oc : Int32} {a1 a2 a3 a4 a5 a6 a7 a8 a9 a10 a11 a12 a13 a14 a15 a16 a17 a18 a19 : Nat → Int32}
theorem fw_hi_l {post : Int32 → Prop} {s t EX LV : Nat} {k : Nat → Bool} (hs : s < 16) (ht : t < 16) (hX : fw_X s a11 EX) (h8 : fw_A 16 a8 LV)
    (hp : ∀ b, b ≤ 16 → k b = true → post (fw_o b)) :
    ∀ (F i b : Nat), i + F = 16 → b ≤ i → fw_hi s t EX LV k F i b = true → wX_highest_4 post pr (nI s) (nI t) ed fl qf qs oc a1 a2 a3 a4 a5 a6 a7 a8 a9 a10 a11 a12 a13 a14 a15 a16 a17 a18 a19 (F + 1) (fw_o b) (nI i) := by
  intro F
  induction F with
  | zero =>
    intro i b hi hb hm
    exact br_t (by rw [show i = 16 by omega]; decide) (hp b (by omega) hm)
  | succ F ih =>
    intro i b hi hb hm
    have ii : vp_in (nI i) 16 := pk_in i 16 (by omega)
    have W : ∀ (x : Int32), x = nI i → wX_highest_4 post pr (nI s) (nI t) ed fl qf qs oc a1 a2 a3 a4 a5 a6 a7 a8 a9 a10 a11 a12 a13 a14 a15 a16 a17 a18 a19 (F + 1) (fw_o b) (x + 1) → wX_highest_39 post (wX_highest_4 post pr (nI s) (nI t) ed fl qf qs oc a1 a2 a3 a4 a5 a6 a7 a8 a9 a10 a11 a12 a13 a14 a15 a16 a17 a18 a19 (F + 1)) (fw_o b) x pr (nI s) (nI t) ed fl qf qs oc a1 a2 a3 a4 a5 a6 a7 a8 a9 a10 a11 a12 a13 a14 a15 a16 a17 a18 a19 := fun x ex h => br_t rfl (nm_e h)
    refine br_f (nI_ge (b := 16) (by omega) (by decide)) ?_
    by_cases es : i = s
    · refine br_t (by rw [es]) (W _ rfl ?_)
      rw [nI_1]
      rcases fw_ifE hm with ⟨c, hm⟩ | ⟨c, hm⟩
      · exact ih _ _ (by omega) (by omega) hm
      · rcases fw_ifE hm with ⟨c, hm⟩ | ⟨c, hm⟩
        · exact ih _ _ (by omega) (by omega) hm
        · exact absurd es (fw_ne c)
    · refine br_f (by rw [nI_eq (by omega) (by omega)]; exact es) ?_
      by_cases et : i = t
      · refine br_t (by rw [et]) (W _ rfl ?_)
        rw [nI_1]
        rcases fw_ifE hm with ⟨c, hm⟩ | ⟨c, hm⟩
        · exact ih _ _ (by omega) (by omega) hm
        · rcases fw_ifE hm with ⟨c, hm⟩ | ⟨c, hm⟩
          · exact absurd (fw_eq c) es
          · rcases fw_ifE hm with ⟨c, hm⟩ | ⟨c, hm⟩
            · exact ih _ _ (by omega) (by omega) hm
            · exact absurd et (fw_ne c)
      · have r11 : a11 (nI i).toNatClampNeg = nI (fw_g EX i) := fw_rd (hX i (by omega) es) (by omega)
        have g1 := fw_g_lt EX i
        refine br_f (by rw [nI_eq (by omega) (by omega)]; exact et) ⟨ii, ?_⟩
        rcases fw_ifE hm with ⟨c, hm⟩ | ⟨c, hm⟩
        · have c := fw_eq c
          refine br_t (by rw [r11, c]; decide) (W _ rfl ?_)
          rw [nI_1]
          exact ih _ _ (by omega) (by omega) hm
        · have c := fw_ne c
          refine br_f (by rw [r11]; exact nI_nle (by omega) (by omega)) (br_f (by decide) ?_)
          rcases fw_ifE hm with ⟨c1, hm⟩ | ⟨c1, hm⟩
          · exact absurd (fw_eq c1) es
          rcases fw_ifE hm with ⟨c1, hm⟩ | ⟨c1, hm⟩
          · exact absurd (fw_eq c1) et
          have up : fw_hi s t EX LV k F (Nat.succ i) (Nat.succ i) = true → wX_highest_4 post pr (nI s) (nI t) ed fl qf qs oc a1 a2 a3 a4 a5 a6 a7 a8 a9 a10 a11 a12 a13 a14 a15 a16 a17 a18 a19 (F + 1) (nI i) (nI (i + 1)) := by
            intro hm
            have := ih (i + 1) (i + 1) (by omega) (by omega) hm
            rw [fw_oS] at this
            exact this
          rcases fw_ifE hm with ⟨c2, hm⟩ | ⟨c2, hm⟩
          · have c2 := fw_eq c2
            exact br_t (by rw [c2]; decide) (nm_r (nI_1 i) (up hm))
          · have c2 := fw_ne c2
            have rb : fw_o b = nI (Nat.pred b) := by rw [fw_oP c2]; rfl
            have hb' : Nat.pred b < 16 := by rw [Nat.pred_eq_sub_one]; omega
            have r8 : a8 (nI i).toNatClampNeg = nI (fw_g LV i) := fw_rd (h8 i (by omega)) (by omega)
            have r8b : a8 (fw_o b).toNatClampNeg = nI (fw_g LV (Nat.pred b)) := by rw [rb]; exact fw_rd (h8 _ hb') (by omega)
            have g2 := fw_g_lt LV i
            have g3 := fw_g_lt LV (Nat.pred b)
            refine br_f (by rw [fw_o_neg (by omega)]; exact c2) ⟨ii, pk_in _ 16 hb' rb, ?_⟩
            rcases fw_ifE hm with ⟨c3, hm⟩ | ⟨c3, hm⟩
            · have c3 := fw_le c3
              exact br_t (by rw [r8, r8b]; exact nI_le c3 (by omega)) (nm_r (nI_1 i) (ih _ _ (by omega) (by omega) hm))
            · have c3 := fw_gt c3
              exact br_f (by rw [r8, r8b]; exact nI_ge c3 (by omega)) (nm_r (nI_1 i) (up hm))
theorem fw_hi_w {post : Int32 → Prop} {s t EX LV : Nat} {k : Nat → Bool} (hs : s < 16) (ht : t < 16) (hX : fw_X s a11 EX) (h8 : fw_A 16 a8 LV) (hm : fw_hi s t EX LV k 16 0 0 = true)
    (hp : ∀ b, b ≤ 16 → k b = true → post (fw_o b)) : wpX_highest post (pr, nI s, nI t, ed, fl, qf, qs, oc, a1, a2, a3, a4, a5, a6, a7, a8, a9, a10, a11, a12, a13, a14, a15, a16, a17, a18, a19) :=
  ⟨17, fw_hi_l hs ht hX h8 hp 16 0 0 (by omega) (by omega) hm⟩
end
noncomputable def fw_cg (s h : Nat) (k : Nat → Nat → Bool) (F : Nat) : Nat → Nat → Nat → Bool :=
  @Nat.rec (fun _ => Nat → Nat → Nat → Bool) (fun _ LV H => k LV H)
    (fun _ ih i LV H => (fun l => fw_if (Nat.ble l h) (ih (Nat.succ i) LV H) (fw_if (Nat.ble 17 l) (ih (Nat.succ i) LV H) (fw_if (Nat.beq i s) (ih (Nat.succ i) LV H) (fw_lift i l 17 LV H (fun LV H => ih (Nat.succ i) LV H))))) (fw_g LV i)) F
section
variable {pr so si ed fl qf qs oc : Int32} {a1 a2 a3 a4 a5 a6 a7 a9 a10 a11 a13 a14 a15 a16 a17 a18 a19 : Nat → Int32}
theorem fw_cg_l {post : St2 → Prop} {s h : Nat} {k : Nat → Nat → Bool} (hs : s < 16) (hh : h < 65536)
    (hp : ∀ (a8' a12' : Nat → Int32) (LV' H' : Nat), fw_A 16 a8' LV' → fw_A 64 a12' H' → k LV' H' = true → post (pr, nI s, si, ed, fl, qf, qs, oc, a1, a2, a3, a4, a5, a6, a7, a8', a9, a10, a11, a12', a13, a14, a15, a16, a17, a18, a19)) :
    ∀ (F i LV H : Nat) (a8 a12 : Nat → Int32), i + F = 16 → fw_A 16 a8 LV → fw_A 64 a12 H → fw_cg s h k F i LV H = true → wX_closeGap_2 post (nI h) pr (nI s) si ed fl qf qs oc (F + 1) (nI i) a1 a2 a3 a4 a5 a6 a7 a8 a9 a10 a11 a12 a13 a14 a15 a16 a17 a18 a19 := by
  intro F
  induction F with
  | zero =>
    intro i LV H a8 a12 hi h8 h12 hm
    exact br_t (by rw [show i = 16 by omega]; decide) (hp _ _ _ _ h8 h12 hm)
  | succ F ih =>
    intro i LV H a8 a12 hi h8 h12 hm
    have ii : vp_in (nI i) 16 := pk_in i 16 (by omega)
    have r8 : a8 (nI i).toNatClampNeg = nI (fw_g LV i) := fw_rd (h8 i (by omega)) (by omega)
    have g1 := fw_g_lt LV i
    refine br_f (nI_ge (b := 16) (by omega) (by decide)) ?_
    by_cases es : i = s
    · refine br_t (by rw [es]) (nm_r (nI_1 i) ?_)
      rcases fw_ifE hm with ⟨c, hm⟩ | ⟨c, hm⟩
      · exact ih _ _ _ _ _ (by omega) h8 h12 hm
      rcases fw_ifE hm with ⟨c, hm⟩ | ⟨c, hm⟩
      · exact ih _ _ _ _ _ (by omega) h8 h12 hm
      rcases fw_ifE hm with ⟨c, hm⟩ | ⟨c, hm⟩
      · exact ih _ _ _ _ _ (by omega) h8 h12 hm
      · exact absurd es (fw_ne c)
    · refine br_f (by rw [nI_eq (by omega) (by omega)]; exact es) ⟨ii, ?_⟩
      rcases fw_ifE hm with ⟨c, hm⟩ | ⟨c, hm⟩
      · have c := fw_le c
        exact br_t (by rw [r8]; exact nI_le c (by omega)) (nm_r (nI_1 i) (ih _ _ _ _ _ (by omega) h8 h12 hm))
      · have c := fw_gt c
        refine br_f (by rw [r8]; exact nI_ge c (by omega)) ⟨ii, ?_⟩
        rcases fw_ifE hm with ⟨c1, hm⟩ | ⟨c1, hm⟩
        · have c1 := fw_le c1
          exact br_t (by rw [r8]; exact nI_lt (a := 16) (by omega) (by omega)) (nm_r (nI_1 i) (ih _ _ _ _ _ (by omega) h8 h12 hm))
        · have c1 := fw_gt c1
          rcases fw_ifE hm with ⟨c2, hm⟩ | ⟨c2, hm⟩
          · exact absurd (fw_eq c2) es
          obtain ⟨c3, hm⟩ := fw_ifA hm
          obtain ⟨c4, hm⟩ := fw_ifN hm
          obtain ⟨c5, hm⟩ := fw_ifA hm
          have c4 := fw_ne c4
          have c5 := fw_le c5
          have i8 : vp_in (a8 (nI i).toNatClampNeg) 64 := pk_in _ 64 (by omega) r8
          have g1 := fw_g_lt H (fw_g LV i)
          have b1 : Nat.pred (fw_g H (fw_g LV i)) < 256 := by rw [Nat.pred_eq_sub_one]; omega
          have h12' := fw_Au h12 (fw_g LV i) b1
          have r8' : upd a8 i (nI 17) (nI i).toNatClampNeg = nI 17 := fw_rd pk_us (by omega)
          have i8' : vp_in (upd a8 i (nI 17) (nI i).toNatClampNeg) 64 := pk_in _ 64 (by omega) r8'
          refine br_f (by rw [r8]; exact nI_nlt (a := 16) (b := fw_g LV i) (by omega) (by omega)) ⟨ii, i8, i8, nm_r (e' := upd a12 (fw_g LV i) (nI (Nat.pred (fw_g H (fw_g LV i))))) ?_ ⟨ii, nm_r (fw_ud (y := nI 17) (by omega) rfl) ⟨ii, i8', i8', nm_r (e' := upd (upd a12 (fw_g LV i) (nI (Nat.pred (fw_g H (fw_g LV i))))) 17 (nI (Nat.succ (fw_g (fw_s H (fw_g LV i) (Nat.pred (fw_g H (fw_g LV i)))) 17)))) ?_ (nm_r (nI_1 i) (ih _ _ _ _ _ (by omega) (fw_Au h8 i (by omega)) (fw_Au h12' _ (by omega)) hm))⟩⟩⟩
          · rw [r8, fw_cl (by omega), h12 _ (by omega)]
            obtain ⟨m, e⟩ : ∃ m, fw_g H (fw_g LV i) = m + 1 := ⟨fw_g H (fw_g LV i) - 1, by omega⟩
            rw [e, nI_pred]
            rfl
          · rw [r8', fw_cl (by omega), h12' _ (by omega), nI_1]
end
noncomputable def fw_r3 (adj : Nat → List (Nat × Nat)) (s t : Nat) (k : Nat → Nat → Bool) (F : Nat) : Nat → Nat → Nat → Nat → Nat → Nat → Nat → Nat → Bool :=
  @Nat.rec (fun _ => Nat → Nat → Nat → Nat → Nat → Nat → Nat → Nat → Bool) (fun _ _ _ _ _ _ _ _ => false)
    (fun _ ih b LV H LF EX Q n M => fw_if (Nat.beq b 0) (k LF (fw_g EX t)) ((fun u => fw_if (Nat.beq u s) false (fw_dis s t u LV
      (fun LF EX Q n M => fw_if (Nat.beq (fw_g EX u) 0) (fw_hi s t EX LV (fun b => ih b LV H LF EX Q n M) 16 0 0)
        ((fun old => fw_raise adj u LF LV H (fun LV H => fw_if (Nat.ble old 63) (fw_if (Nat.beq (fw_g H old) 0)
          (fw_if (Nat.ble 16 old) (fw_hi s t EX LV (fun b => ih b LV H LF EX Q n M) 16 0 0) (fw_cg s old (fun LV H => fw_hi s t EX LV (fun b => ih b LV H LF EX Q n M) 16 0 0) 16 0 LV H))
          (fw_hi s t EX LV (fun b => ih b LV H LF EX Q n M) 16 0 0)) false)) (fw_g LV u))) (adj u) LF EX Q n M)) (Nat.pred b))) F
noncomputable def fw_e3 (adj : Nat → List (Nat × Nat)) (s t F LF : Nat) (k : Nat → Nat → Bool) : Bool :=
  fw_start adj s t LF (fun LF EX Q n M => fw_hi s t EX (fw_s 0 s 16) (fun b => fw_r3 adj s t k F b (fw_s 0 s 16) fw_H0 LF EX Q n M) 16 0 0)
section
variable {pr so si ed fl qf oc : Int32} {a1 a2 a3 a4 a6 a7 a9 a10 a15 a16 a17 a18 a19 : Nat → Int32}
theorem fw_r3_w {post : St2 → Prop} {adj : Nat → List (Nat × Nat)} {TO NX FS E s t : Nat} {k : Nat → Nat → Bool} (hN : fw_Net adj TO NX FS E a4 a6 a7) (hs : s < 16) (ht : t < 16) (hst : t ≠ s)
    (hp : ∀ (fl' qs' : Int32) (a5' a8' a11' a12' a13' a14' : Nat → Int32) (LF' n' : Nat), fw_A E a5' LF' → fl' = nI n' → k LF' n' = true → post (pr, nI s, nI t, ed, fl', qf, qs', oc, a1, a2, a3, a4, a5', a6, a7, a8', a9, a10, a11', a12', a13', a14', a15, a16, a17, a18, a19)) :
    ∀ (F r b LV H LF EX Q n M : Nat) (qs : Int32) (a5 a8 a11 a12 a13 a14 : Nat → Int32), r + F ≤ 100000 → b ≤ 16 → fw_A 16 a8 LV → fw_A 64 a12 H → fw_A E a5 LF → fw_X s a11 EX → fw_Q qf qs a13 a14 Q n M → fw_r3 adj s t k F b LV H LF EX Q n M = true →
      wX_solveByPushingHighest_11 post F (fw_o b) (nI r) pr (nI s) (nI t) ed fl qf qs oc a1 a2 a3 a4 a5 a6 a7 a8 a9 a10 a11 a12 a13 a14 a15 a16 a17 a18 a19 := by
  intro F
  induction F with
  | zero =>
    intro r b LV H LF EX Q n M qs a5 a8 a11 a12 a13 a14 _ _ _ _ _ _ _ hm
    exact absurd hm (by intro z; cases z)
  | succ F ih =>
    intro r b LV H LF EX Q n M qs a5 a8 a11 a12 a13 a14 hr hb h8 h12 h5 hX hq hm
    refine br_f (nI_ge (b := 100000) (by omega) (by decide)) ?_
    rcases fw_ifE hm with ⟨c, hm⟩ | ⟨c, hm⟩
    · have c := fw_eq c
      exact br_t (by rw [c]; decide) ⟨pk_in t 16 ht, nm_r (fw_rd (hX t ht hst) (by omega)) (hp _ _ _ _ _ _ _ _ _ _ h5 rfl hm)⟩
    · have c := fw_ne c
      obtain ⟨c1, hm⟩ := fw_ifN hm
      have c1 := fw_ne c1
      have rb : fw_o b = nI (Nat.pred b) := by rw [fw_oP c]; rfl
      have hu : Nat.pred b < 16 := by rw [Nat.pred_eq_sub_one]; omega
      rw [rb]
      have iu : vp_in (nI (Nat.pred b)) 16 := fw_in hu
      refine br_f (nI_pos (by omega)) ⟨iu, nm_r (fw_rd rfl (by omega)) ⟨_, fw_dis_w hN.1 hs ht hu c1 h8 (fun qs2 a52 a112 a132 a142 LF2 EX2 Q2 n2 M2 h52 hX2 hq2 hm2 => ?_) (adj (Nat.pred b)) _ LF EX Q n M _ _ _ _ _ (hN.2.1 _ hu) h5 hX hq hm⟩⟩
      have r11 : a112 (nI (Nat.pred b)).toNatClampNeg = nI (fw_g EX2 (Nat.pred b)) := fw_rd (hX2 _ hu c1) (by omega)
      have g1 := fw_g_lt EX2 (Nat.pred b)
      have go : ∀ (LV3 H3 : Nat) (a83 a123 : Nat → Int32), fw_A 16 a83 LV3 → fw_A 64 a123 H3 → fw_hi s t EX2 LV3 (fun b => fw_r3 adj s t k F b LV3 H3 LF2 EX2 Q2 n2 M2) 16 0 0 = true → wX_solveByPushingHighest_67 post (wX_solveByPushingHighest_11 post F) (nI r) pr (nI s) (nI t) ed fl qf qs2 oc a1 a2 a3 a4 a52 a6 a7 a83 a9 a10 a112 a123 a132 a142 a15 a16 a17 a18 a19 := by
        intro LV3 H3 a83 a123 h83 h123 hm3
        exact fw_hi_w hs ht hX2 h83 hm3 (fun b' hb' hm4 => nm_r (nI_1 r) (ih _ _ _ _ _ _ _ _ _ _ _ _ _ _ _ _ (by omega) hb' h83 h123 h52 hX2 hq2 hm4))
      refine ⟨iu, ?_⟩
      rcases fw_ifE hm2 with ⟨c2, hm2⟩ | ⟨c2, hm2⟩
      · have c2 := fw_eq c2
        exact br_t (by rw [r11, c2]; decide) (go _ _ _ _ h8 h12 hm2)
      · have c2 := fw_ne c2
        have r8 : a8 (nI (Nat.pred b)).toNatClampNeg = nI (fw_g LV (Nat.pred b)) := fw_rd (h8 _ hu) (by omega)
        have g2 := fw_g_lt LV (Nat.pred b)
        refine br_f (by rw [r11]; exact nI_nle (by omega) (by omega)) ⟨iu, nm_r r8 (fw_raise_w rfl hN hu h52 h8 h12 hm2 (fun a83 a123 LV3 H3 h83 h123 hm3 => ?_))⟩
        obtain ⟨c3, hm3⟩ := fw_ifA hm3
        have c3 := fw_le c3
        have r12 : a123 (nI (fw_g LV (Nat.pred b))).toNatClampNeg = nI (fw_g H3 (fw_g LV (Nat.pred b))) := fw_rd (h123 _ (by omega)) (by omega)
        have g3 := fw_g_lt H3 (fw_g LV (Nat.pred b))
        refine ⟨fw_in (by omega), ?_⟩
        rcases fw_ifE hm3 with ⟨c4, hm3⟩ | ⟨c4, hm3⟩
        · have c4 := fw_eq c4
          refine br_t (by rw [r12, c4]; rfl) ?_
          rcases fw_ifE hm3 with ⟨c5, hm3⟩ | ⟨c5, hm3⟩
          · have c5 := fw_le c5
            exact br_t (nI_le (a := 16) c5 (by omega)) (go _ _ _ _ h83 h123 hm3)
          · have c5 := fw_gt c5
            exact br_f (nI_ge (b := 16) c5 (by decide)) ⟨17, fw_cg_l hs (by omega) (fun a84 a124 LV4 H4 h84 h124 hm4 => go _ _ _ _ h84 h124 hm4) 16 0 LV3 H3 a83 a123 (by omega) h83 h123 hm3⟩
        · have c4 := fw_ne c4
          exact br_f (by rw [r12]; exact nI_ne0 (by omega) (by omega)) (go _ _ _ _ h83 h123 hm3)
end
section
variable {pr so si ed fl qf qs oc : Int32} {a1 a2 a3 a4 a5 a6 a7 a8 a9 a10 a11 a12 a13 a14 a15 a16 a17 a18 a19 : Nat → Int32}
theorem fw_e3_w {post : St2 → Prop} {adj : Nat → List (Nat × Nat)} {TO NX FS E s t F LF : Nat} {k : Nat → Nat → Bool} (hN : fw_Net adj TO NX FS E a4 a6 a7) (hs : s < 16) (ht : t < 16) (hst : t ≠ s) (hF : F ≤ 100000) (h5 : fw_A E a5 LF)
    (hm : fw_e3 adj s t F LF k = true)
    (hp : ∀ (fl' qf' qs' : Int32) (a5' a8' a11' a12' a13' a14' : Nat → Int32) (LF' n' : Nat), fw_A E a5' LF' → fl' = nI n' → k LF' n' = true → post (pr, nI s, nI t, ed, fl', qf', qs', oc, a1, a2, a3, a4, a5', a6, a7, a8', a9, a10, a11', a12', a13', a14', a15, a16, a17, a18, a19)) :
    wpX_solveByPushingHighest post (pr, nI s, nI t, ed, fl, qf, qs, oc, a1, a2, a3, a4, a5, a6, a7, a8, a9, a10, a11, a12, a13, a14, a15, a16, a17, a18, a19) := by
  unfold wpX_solveByPushingHighest
  exact fw_start_w hN hs ht h5 hm (fun qf' qs' a5' a8' a11' a12' a13' a14' LF' EX' Q' n' M' h5' h8' h12' hX' hq' hm' =>
    fw_hi_w hs ht hX' h8' hm' (fun b hb hm'' => ⟨F, fw_r3_w hN hs ht hst (fun fl2 qs2 a52 a82 a112 a122 a132 a142 LF2 n2 h52 e2 hm2 => hp fl2 qf' qs2 a52 a82 a112 a122 a132 a142 LF2 n2 h52 e2 hm2) F 0 b _ _ _ _ _ _ _ _ _ _ _ _ _ _ (by omega) hb h8' h12' h5' hX' hq' hm''⟩))
end
end
section
/-! engine 5: the weakest nodes -/
noncomputable def fw_al (bk : Bool) (e : Nat) : Nat := @Bool.rec (fun _ => Nat) e (Nat.xor e 1) bk
noncomputable def fw_lb (bk : Bool) (LF LV n v e : Nat) : Bool := @Bool.rec (fun _ => Bool) (fw_ld LF LV n v e) (fw_ld LF LV v n (Nat.xor e 1)) bk
noncomputable def fw_bI (bk : Bool) : Int32 := @Bool.rec (fun _ => Int32) 0 1 bk
noncomputable def fw_th (bk : Bool) (LF LV G n : Nat) (k : Nat → Bool) (L : List (Nat × Nat)) : Nat → Bool :=
  @List.rec (Nat × Nat) (fun _ => Nat → Bool) k (fun p _ ih sum => fw_if (fw_lb bk LF LV n p.2 p.1) (fw_if (Nat.beq (fw_b G p.2) 0) (ih (Nat.add sum (fw_g LF (fw_al bk p.1)))) (ih sum)) (ih sum)) L
section
variable {pr so si ed fl qf qs oc : Int32} {a1 a2 a3 a4 a5 a6 a7 a8 a9 a10 a11 a12 a13 a14 a15 a16 a17 a18 a19 : Nat → Int32}
theorem fw_th_l {post : Int32 → Prop} {E LF LV G n : Nat} {k : Nat → Bool} (bk : Bool) (hE : E ≤ 56) (h5 : fw_A E a5 LF) (h8 : fw_O 16 a8 LV) (h16 : fw_M 16 a16 G) (hn : n < 16)
    (hp : ∀ sum, k sum = true → post (nI sum)) :
    ∀ (L : List (Nat × Nat)) (x : Int32) (sum : Nat), fw_Ch a4 a7 n E L x → fw_th bk LF LV G n k L sum = true → wX_through_10 post (nI n) (fw_bI bk) pr so si ed fl qf qs oc a1 a2 a3 a4 a5 a6 a7 a8 a9 a10 a11 a12 a13 a14 a15 a16 a17 a18 a19 (L.length + 1) (nI sum) x := by
  intro L
  induction L with
  | nil =>
    intro x sum hc hm
    have hx : x = -1 := hc
    subst hx
    exact br_t (by decide) (hp sum hm)
  | cons p L ih =>
    intro x sum hc hm
    obtain ⟨hx, he, hx1, h4, hv, h4t, hc⟩ := hc
    subst hx
    have i1 : vp_in (nI p.1) 56 := pk_in p.1 56 (by omega)
    have r4 : a4 (nI p.1).toNatClampNeg = nI p.2 := fw_rd h4 (by omega)
    have r7 : a7 (nI p.1).toNatClampNeg = a7 p.1 := fw_rd rfl (by omega)
    have r16 : a16 (nI p.2).toNatClampNeg = nI (fw_b G p.2) := fw_rd (h16 _ hv) (by omega)
    have g1 := fw_b_2 G p.2
    have no : fw_th bk LF LV G n k L sum = true → wX_through_87 post (wX_through_10 post (nI n) (fw_bI bk) pr so si ed fl qf qs oc a1 a2 a3 a4 a5 a6 a7 a8 a9 a10 a11 a12 a13 a14 a15 a16 a17 a18 a19 (L.length + 1)) (nI n) (fw_bI bk) (nI p.1) (nI sum) pr so si ed fl qf qs oc a1 a2 a3 a4 a5 a6 a7 a8 a9 a10 a11 a12 a13 a14 a15 a16 a17 a18 a19 :=
      fun hm => nm_r (nI_add sum 0) ⟨i1, nm_r r7 (ih _ _ hc hm)⟩
    have J : ∀ (z : Int32), (fw_lb bk LF LV n p.2 p.1 = true → z = 1) → (fw_lb bk LF LV n p.2 p.1 = false → z = 0) → wX_through_48 post (wX_through_10 post (nI n) (fw_bI bk) pr so si ed fl qf qs oc a1 a2 a3 a4 a5 a6 a7 a8 a9 a10 a11 a12 a13 a14 a15 a16 a17 a18 a19 (L.length + 1)) (nI n) (fw_bI bk) (nI sum) (nI p.1) (nI p.2) z pr so si ed fl qf qs oc a1 a2 a3 a4 a5 a6 a7 a8 a9 a10 a11 a12 a13 a14 a15 a16 a17 a18 a19 := by
      intro z z1 z0
      rcases fw_ifE hm with ⟨c, hm⟩ | ⟨c, hm⟩
      · rw [z1 c]
        refine br_f (by decide) ⟨fw_in hv, ?_⟩
        rcases fw_ifE hm with ⟨c2, hm⟩ | ⟨c2, hm⟩
        · have c2 := fw_eq c2
          refine br_t (by rw [r16, c2]; rfl) ?_
          cases bk with
          | false => exact br_t rfl ⟨i1, nm_r (e' := nI (Nat.add sum (fw_g LF p.1))) (by rw [fw_cl (by omega), h5 _ he, nI_add]; rfl) ⟨i1, nm_r r7 (ih _ _ hc hm)⟩⟩
          | true =>
            refine br_f (by decide) ?_
            rw [fw_x1 _ (by omega)]
            exact ⟨fw_in (by omega), nm_r (e' := nI (Nat.add sum (fw_g LF (Nat.xor p.1 1)))) (by rw [fw_cl (by omega), h5 _ hx1, nI_add]; rfl) ⟨i1, nm_r r7 (ih _ _ hc hm)⟩⟩
        · have c2 := fw_ne c2
          exact br_f (by rw [r16]; exact nI_ne0 (by omega) (by omega)) (no hm)
      · rw [z0 c]
        exact br_t rfl (no hm)
    refine br_f (nI_pos (by omega)) ⟨i1, nm_r r4 ?_⟩
    cases bk with
    | false => exact br_t rfl (fw_ld_w rfl rfl hE h5 h8 hn he h4 hv (fun h => J 1 (fun _ => rfl) (fun h' => absurd (h.symm.trans h') (by decide))) (fun h => J 0 (fun h' => absurd (h.symm.trans h') (by decide)) (fun _ => rfl)))
    | true => exact br_f (by decide) (fw_ld_w rfl (fw_x1 _ (by omega)) hE h5 h8 hv hx1 h4t hn (fun h => J 1 (fun _ => rfl) (fun h' => absurd (h.symm.trans h') (by decide))) (fun h => J 0 (fun h' => absurd (h.symm.trans h') (by decide)) (fun _ => rfl)))
theorem fw_th_w {post : Int32 → Prop} {x : Int32} {adj : Nat → List (Nat × Nat)} {TO NX FS E LF LV G n : Nat} {k : Nat → Bool} (bk : Bool) (ex : x = fw_bI bk) (hN : fw_Net adj TO NX FS E a4 a6 a7) (h5 : fw_A E a5 LF) (h8 : fw_O 16 a8 LV) (h16 : fw_M 16 a16 G) (hn : n < 16)
    (hm : fw_th bk LF LV G n k (adj n) 0 = true) (hp : ∀ sum, k sum = true → post (nI sum)) : wpX_through post (pr, so, si, ed, fl, qf, qs, oc, a1, a2, a3, a4, a5, a6, a7, a8, a9, a10, a11, a12, a13, a14, a15, a16, a17, a18, a19) (nI n) x := by
  subst ex
  exact ⟨pk_in n 16 hn, nm_r (fw_rd rfl (by omega)) ⟨_, fw_th_l bk hN.1 h5 h8 h16 hn hp (adj n) _ 0 (hN.2.1 n hn) hm⟩⟩
end
noncomputable def fw_wx (s t LF LV G i : Nat) (L : List (Nat × Nat)) (k : Nat → Nat → Bool) : Bool :=
  fw_if (Nat.beq i s)
    (fw_if (Nat.beq i t) (k 1048576 1048576) (fw_th false LF LV G i (fun y => k 1048576 y) L 0))
    (fw_th true LF LV G i (fun x => fw_if (Nat.beq i t) (k x 1048576) (fw_th false LF LV G i (fun y => k x y) L 0)) L 0)
noncomputable def fw_wk (adj : Nat → List (Nat × Nat)) (s t LF LV G : Nat) (k : Nat → Nat → Bool) (F : Nat) : Nat → Nat → Nat → Bool :=
  @Nat.rec (fun _ => Nat → Nat → Nat → Bool) (fun _ b l => k b l)
    (fun _ ih i b l => fw_if (Nat.beq (fw_b G i) 0) (fw_wx s t LF LV G i (adj i) (fun x y => fw_if (Nat.ble x 1048576) (fw_if (Nat.ble y 1048576)
      (fw_if (Nat.ble y x) (fw_if (Nat.ble l y) (ih (Nat.succ i) b l) (ih (Nat.succ i) (Nat.succ i) y)) (fw_if (Nat.ble l x) (ih (Nat.succ i) b l) (ih (Nat.succ i) (Nat.succ i) x))) false) false)) (ih (Nat.succ i) b l)) F
section
variable {pr so si ed fl qf qs oc : Int32} {a1 a2 a3 a4 a5 a6 a7 a8 a9 a10 a11 a12 a13 a14 a15 a16 a17 a18 a19 : Nat → Int32}
theorem fw_wk_l {post : Int32 → St2 → Prop} {adj : Nat → List (Nat × Nat)} {TO NX FS E s t LF LV G : Nat} {k : Nat → Nat → Bool} (hN : fw_Net adj TO NX FS E a4 a6 a7) (hs : s < 16) (ht : t < 16) (h5 : fw_A E a5 LF) (h8 : fw_O 16 a8 LV) (h16 : fw_M 16 a16 G)
    (hp : ∀ b l, b ≤ 16 → l ≤ 1048576 → k b l = true → post (fw_o b) (pr, nI s, nI t, ed, fl, qf, qs, oc, a1, a2, a3, a4, a5, a6, a7, a8, a9, a10, a11, a12, a13, a14, a15, a16, upd a17 0 (nI l), a18, a19)) :
    ∀ (F i b l : Nat), i + F = 16 → b ≤ i → l ≤ 1048576 → fw_wk adj s t LF LV G k F i b l = true → wX_weakestNode_7 post pr (nI s) (nI t) ed fl qf qs oc a1 a2 a3 a4 a5 a6 a7 a8 a9 a10 a11 a12 a13 a14 a15 a16 a17 a18 a19 (F + 1) (fw_o b) (nI l) (nI i) := by
  intro F
  induction F with
  | zero =>
    intro i b l hi hb hl hm
    exact br_t (by rw [show i = 16 by omega]; decide) (nm_e (hp b l (by omega) hl hm))
  | succ F ih =>
    intro i b l hi hb hl hm
    have ii : vp_in (nI i) 16 := pk_in i 16 (by omega)
    have r16 : a16 (nI i).toNatClampNeg = nI (fw_b G i) := fw_rd (h16 _ (by omega)) (by omega)
    have g1 := fw_b_2 G i
    refine br_f (nI_ge (b := 16) (by omega) (by decide)) ⟨ii, ?_⟩
    rcases fw_ifE hm with ⟨c, hm⟩ | ⟨c, hm⟩
    · have c := fw_eq c
      refine br_t (by rw [r16, c]; rfl) ?_
      have fin : ∀ x y, fw_if (Nat.ble x 1048576) (fw_if (Nat.ble y 1048576)
      (fw_if (Nat.ble y x) (fw_if (Nat.ble l y) (fw_wk adj s t LF LV G k F (Nat.succ i) b l) (fw_wk adj s t LF LV G k F (Nat.succ i) (Nat.succ i) y)) (fw_if (Nat.ble l x) (fw_wk adj s t LF LV G k F (Nat.succ i) b l) (fw_wk adj s t LF LV G k F (Nat.succ i) (Nat.succ i) x))) false) false = true → wX_weakestNode_62 post (wX_weakestNode_7 post pr (nI s) (nI t) ed fl qf qs oc a1 a2 a3 a4 a5 a6 a7 a8 a9 a10 a11 a12 a13 a14 a15 a16 a17 a18 a19 (F + 1)) (fw_o b) (nI l) (nI i) (nI x) (nI y) pr (nI s) (nI t) ed fl qf qs oc a1 a2 a3 a4 a5 a6 a7 a8 a9 a10 a11 a12 a13 a14 a15 a16 a17 a18 a19 := by
        intro x y hm
        obtain ⟨c1, hm⟩ := fw_ifA hm
        obtain ⟨c2, hm⟩ := fw_ifA hm
        have c1 := fw_le c1
        have c2 := fw_le c2
        have tail : ∀ z, z ≤ 1048576 → fw_if (Nat.ble l z) (fw_wk adj s t LF LV G k F (Nat.succ i) b l) (fw_wk adj s t LF LV G k F (Nat.succ i) (Nat.succ i) z) = true → wX_weakestNode_78 post (wX_weakestNode_7 post pr (nI s) (nI t) ed fl qf qs oc a1 a2 a3 a4 a5 a6 a7 a8 a9 a10 a11 a12 a13 a14 a15 a16 a17 a18 a19 (F + 1)) (fw_o b) (nI l) (nI i) (nI z) pr (nI s) (nI t) ed fl qf qs oc a1 a2 a3 a4 a5 a6 a7 a8 a9 a10 a11 a12 a13 a14 a15 a16 a17 a18 a19 := by
          intro z hz hm
          rcases fw_ifE hm with ⟨c3, hm⟩ | ⟨c3, hm⟩
          · have c3 := fw_le c3
            have L := nI_le c3 (by omega)
            exact br_t L (br_t L (nm_r (nI_1 i) (ih _ _ _ (by omega) (by omega) hl hm)))
          · have c3 := fw_gt c3
            have L := nI_ge c3 (show l < 2 ^ 31 by omega)
            have W := ih (i + 1) (i + 1) z (by omega) (by omega) hz hm
            rw [fw_oS] at W
            exact br_f L (br_f L (nm_r (nI_1 i) W))
        rcases fw_ifE hm with ⟨c3, hm⟩ | ⟨c3, hm⟩
        · exact br_t (nI_le (fw_le c3) (by omega)) (tail y c2 hm)
        · exact br_f (nI_ge (fw_gt c3) (by omega)) (tail x c1 hm)
      rcases fw_ifE hm with ⟨c1, hm⟩ | ⟨c1, hm⟩
      · have c1 := fw_eq c1
        refine br_t (by rw [c1]) ?_
        rcases fw_ifE hm with ⟨c2, hm⟩ | ⟨c2, hm⟩
        · have c2 := fw_eq c2
          exact br_t (by rw [c2]) (fin _ _ hm)
        · have c2 := fw_ne c2
          exact br_f (by rw [nI_eq (by omega) (by omega)]; exact c2) (fw_th_w false rfl hN h5 h8 h16 (by omega) hm (fun y hm => fin _ y hm))
      · have c1 := fw_ne c1
        refine br_f (by rw [nI_eq (by omega) (by omega)]; exact c1) (fw_th_w true rfl hN h5 h8 h16 (by omega) hm (fun x hm => ?_))
        rcases fw_ifE hm with ⟨c2, hm⟩ | ⟨c2, hm⟩
        · have c2 := fw_eq c2
          exact br_t (by rw [c2]) (fin _ _ hm)
        · have c2 := fw_ne c2
          exact br_f (by rw [nI_eq (by omega) (by omega)]; exact c2) (fw_th_w false rfl hN h5 h8 h16 (by omega) hm (fun y hm => fin _ y hm))
    · have c := fw_ne c
      exact br_f (by rw [r16]; exact nI_ne0 (by omega) (by omega)) (nm_r (nI_1 i) (ih _ _ _ (by omega) (by omega) hl hm))
theorem fw_wk_w {post : Int32 → St2 → Prop} {adj : Nat → List (Nat × Nat)} {TO NX FS E s t LF LV G : Nat} {k : Nat → Nat → Bool} (hN : fw_Net adj TO NX FS E a4 a6 a7) (hs : s < 16) (ht : t < 16) (h5 : fw_A E a5 LF) (h8 : fw_O 16 a8 LV) (h16 : fw_M 16 a16 G)
    (hm : fw_wk adj s t LF LV G k 16 0 0 1048576 = true)
    (hp : ∀ b l, b ≤ 16 → l ≤ 1048576 → k b l = true → post (fw_o b) (pr, nI s, nI t, ed, fl, qf, qs, oc, a1, a2, a3, a4, a5, a6, a7, a8, a9, a10, a11, a12, a13, a14, a15, a16, upd a17 0 (nI l), a18, a19)) :
    wpX_weakestNode post (pr, nI s, nI t, ed, fl, qf, qs, oc, a1, a2, a3, a4, a5, a6, a7, a8, a9, a10, a11, a12, a13, a14, a15, a16, a17, a18, a19) :=
  ⟨17, fw_wk_l hN hs ht h5 h8 h16 hp 16 0 0 1048576 (by omega) (by omega) (by omega) hm⟩
end
end
section
/-! engine 5: spreading -/
noncomputable def fw_sm (bk : Bool) (n v e x am LF ND : Nat) (k : Nat → Nat → Bool) : Bool :=
  fw_mv LF (fw_al bk e) am (fun LF => (fun ND => (fun y => fw_if (Nat.ble y 255) (k LF (fw_s ND v y)) false) (Nat.add (fw_g ND v) am)) (fw_s ND n (Nat.sub x am)))
noncomputable def fw_sf (bk : Bool) (LV G n : Nat) (k : Nat → Nat → Bool) (L : List (Nat × Nat)) : Nat → Nat → Bool :=
  @List.rec (Nat × Nat) (fun _ => Nat → Nat → Bool) k
    (fun p _ ih LF ND => (fun x => fw_if (Nat.beq x 0) (k LF ND) (fw_if (fw_lb bk LF LV n p.2 p.1) (fw_if (Nat.beq (fw_b G p.2) 0)
      ((fun l => fw_if (Nat.ble x l) (fw_sm bk n p.2 p.1 x x LF ND ih) (fw_sm bk n p.2 p.1 x l LF ND ih)) (fw_g LF (fw_al bk p.1))) (ih LF ND)) (ih LF ND))) (fw_g ND n)) L
section
variable {pr so si ed fl qf qs oc : Int32} {a1 a2 a3 a4 a6 a7 a8 a9 a10 a11 a12 a13 a14 a15 a16 a18 a19 : Nat → Int32}
theorem fw_sf_l {post : St2 → Prop} {E LV G n : Nat} {k : Nat → Nat → Bool} (bk : Bool) (hE : E ≤ 56) (h8 : fw_O 16 a8 LV) (h16 : fw_M 16 a16 G) (hn : n < 16)
    (hp : ∀ (a5' a17' : Nat → Int32) (LF' ND' : Nat), fw_A E a5' LF' → fw_A 16 a17' ND' → k LF' ND' = true → post (pr, so, si, ed, fl, qf, qs, oc, a1, a2, a3, a4, a5', a6, a7, a8, a9, a10, a11, a12, a13, a14, a15, a16, a17', a18, a19)) :
    ∀ (L : List (Nat × Nat)) (x : Int32) (LF ND : Nat) (a5 a17 : Nat → Int32), fw_Ch a4 a7 n E L x → fw_A E a5 LF → fw_A 16 a17 ND → fw_sf bk LV G n k L LF ND = true → wX_spreadFrom_7 post (nI n) (fw_bI bk) (L.length + 1) x pr so si ed fl qf qs oc a1 a2 a3 a4 a5 a6 a7 a8 a9 a10 a11 a12 a13 a14 a15 a16 a17 a18 a19 := by
  intro L
  induction L with
  | nil =>
    intro x LF ND a5 a17 hc h5 h17 hm
    have hx : x = -1 := hc
    subst hx
    exact br_t (by decide) (hp _ _ _ _ h5 h17 hm)
  | cons p L ih =>
    intro x LF ND a5 a17 hc h5 h17 hm
    obtain ⟨hx, he, hx1, h4, hv, h4t, hc⟩ := hc
    subst hx
    have i1 : vp_in (nI p.1) 56 := pk_in p.1 56 (by omega)
    have iN : vp_in (nI n) 16 := pk_in n 16 hn
    have iv : vp_in (nI p.2) 16 := pk_in p.2 16 hv
    have r4 : a4 (nI p.1).toNatClampNeg = nI p.2 := fw_rd h4 (by omega)
    have r7 : a7 (nI p.1).toNatClampNeg = a7 p.1 := fw_rd rfl (by omega)
    have r16 : a16 (nI p.2).toNatClampNeg = nI (fw_b G p.2) := fw_rd (h16 _ hv) (by omega)
    have r17 : a17 (nI n).toNatClampNeg = nI (fw_g ND n) := fw_rd (h17 _ hn) (by omega)
    have g1 := fw_b_2 G p.2
    have g2 := fw_g_lt ND n
    have hal : fw_al bk p.1 < E := by cases bk; exact he; exact hx1
    have hax : Nat.xor (fw_al bk p.1) 1 < E := by
      cases bk
      · exact hx1
      · show Nat.xor (Nat.xor p.1 1) 1 < E
        rw [(fw_x2 p.1 (by omega)).1]
        exact he
    have no : fw_sf bk LV G n k L LF ND = true → ∀ z : Int32, vp_in (nI p.1) 56 ∧ ∀ x3_13 : Int32, x3_13 = a7 (nI p.1).toNatClampNeg → wX_spreadFrom_7 post (nI n) (fw_bI bk) (L.length + 1) x3_13 pr so si ed fl qf qs oc a1 a2 a3 a4 a5 a6 a7 a8 a9 a10 a11 a12 a13 a14 a15 a16 a17 a18 a19 :=
      fun hm _ => ⟨i1, nm_r r7 (ih _ _ _ _ _ hc h5 h17 hm)⟩
    refine br_f (nI_pos (by omega)) ⟨iN, ?_⟩
    rcases fw_ifE hm with ⟨c, hm⟩ | ⟨c, hm⟩
    · have c := fw_eq c
      exact br_t (by rw [r17, c]; decide) (hp _ _ _ _ h5 h17 hm)
    have c := fw_ne c
    refine br_f (by rw [r17]; exact nI_nle (by omega) (by omega)) ⟨i1, nm_r r4 ?_⟩
    have r5 : a5 (nI (fw_al bk p.1)).toNatClampNeg = nI (fw_g LF (fw_al bk p.1)) := fw_rd (h5 _ hal) (by omega)
    have g3 := fw_g_lt LF (fw_al bk p.1)
    have ia : vp_in (nI (fw_al bk p.1)) 56 := fw_in (by omega)
    have J : ∀ (z : Int32), (fw_lb bk LF LV n p.2 p.1 = true → z = 1) → (fw_lb bk LF LV n p.2 p.1 = false → z = 0) → wX_spreadFrom_63 post (wX_spreadFrom_7 post (nI n) (fw_bI bk) (L.length + 1)) (nI n) (fw_bI bk) (nI p.1) (nI p.2) (nI (fw_al bk p.1)) z pr so si ed fl qf qs oc a1 a2 a3 a4 a5 a6 a7 a8 a9 a10 a11 a12 a13 a14 a15 a16 a17 a18 a19 := by
      intro z z1 z0
      rcases fw_ifE hm with ⟨c1, hm⟩ | ⟨c1, hm⟩
      · rw [z1 c1]
        refine br_f (by decide) ⟨iv, ?_⟩
        rcases fw_ifE hm with ⟨c2, hm⟩ | ⟨c2, hm⟩
        · have c2 := fw_eq c2
          refine br_t (by rw [r16, c2]; rfl) ⟨ia, iN, ?_⟩
          have push : ∀ (am : Nat) (w : Int32), w = nI am → am ≤ fw_g ND n → fw_sm bk n p.2 p.1 (fw_g ND n) am LF ND (fw_sf bk LV G n k L) = true → wX_spreadFrom_112 post (wX_spreadFrom_7 post (nI n) (fw_bI bk) (L.length + 1)) (nI n) (fw_bI bk) (nI p.1) (nI p.2) (nI (fw_al bk p.1)) w pr so si ed fl qf qs oc a1 a2 a3 a4 a5 a6 a7 a8 a9 a10 a11 a12 a13 a14 a15 a16 a17 a18 a19 := by
            intro am w ew ha hm
            subst ew
            refine fw_mv_w rfl rfl h5 hE hal hax hm (fun a5' LF' h5' hm' => ?_)
            obtain ⟨c3, hm'⟩ := fw_ifA hm'
            have c3 := fw_le c3
            have b1 : Nat.sub (fw_g ND n) am < 256 := by show fw_g ND n - am < 256; omega
            have h17' := fw_Au h17 n b1
            refine ⟨iN, iN, nm_r (fw_ud (y := nI (Nat.sub (fw_g ND n) am)) (by omega) (by rw [r17]; exact pk_sub ha)) ⟨iv, iv, nm_r (fw_ud (y := nI (Nat.add (fw_g (fw_s ND n (Nat.sub (fw_g ND n) am)) p.2) am)) (by omega) (by rw [fw_cl (by omega), h17' _ hv, nI_add]; rfl)) ⟨i1, nm_r r7 (ih _ _ _ _ _ hc h5' (fw_Au h17' _ (by omega)) hm')⟩⟩⟩
          rcases fw_ifE hm with ⟨c3, hm⟩ | ⟨c3, hm⟩
          · exact br_t (by rw [r17, r5]; exact nI_le (fw_le c3) (by omega)) ⟨iN, push _ _ r17 (Nat.le_refl _) hm⟩
          · have c3 := fw_gt c3
            exact br_f (by rw [r17, r5]; exact nI_ge c3 (by omega)) ⟨ia, push _ _ r5 (by omega) hm⟩
        · have c2 := fw_ne c2
          exact br_f (by rw [r16]; exact nI_ne0 (by omega) (by omega)) (no hm 0)
      · rw [z0 c1]
        exact br_t rfl (no hm 0)
    cases bk with
    | false => exact br_t rfl (br_t rfl (fw_ld_w rfl rfl hE h5 h8 hn he h4 hv (fun h => J 1 (fun _ => rfl) (fun h' => absurd (h.symm.trans h') (by decide))) (fun h => J 0 (fun h' => absurd (h.symm.trans h') (by decide)) (fun _ => rfl))))
    | true =>
      refine br_f (by decide) ?_
      rw [fw_x1 _ (by omega)]
      exact br_f (by decide) (fw_ld_w rfl rfl hE h5 h8 hv hx1 h4t hn (fun h => J 1 (fun _ => rfl) (fun h' => absurd (h.symm.trans h') (by decide))) (fun h => J 0 (fun h' => absurd (h.symm.trans h') (by decide)) (fun _ => rfl)))
end
noncomputable def fw_nl (adj : Nat → List (Nat × Nat)) (bk : Bool) (LV G l : Nat) (k : Nat → Nat → Bool) (F : Nat) : Nat → Nat → Nat → Bool :=
  @Nat.rec (fun _ => Nat → Nat → Nat → Bool) (fun _ LF ND => k LF ND)
    (fun _ ih i LF ND => fw_if (Nat.beq (fw_g ND i) 0) (ih (Nat.succ i) LF ND) (fw_if (Nat.beq (fw_b G i) 0) (fw_if (Nat.beq (fw_g LV i) l) (fw_sf bk LV G i (fun LF ND => ih (Nat.succ i) LF ND) (adj i) LF ND) (ih (Nat.succ i) LF ND)) (ih (Nat.succ i) LF ND))) F
noncomputable def fw_ll (adj : Nat → List (Nat × Nat)) (bk : Bool) (LV G en : Nat) (k : Nat → Bool) (F : Nat) : Nat → Nat → Nat → Bool :=
  @Nat.rec (fun _ => Nat → Nat → Nat → Bool) (fun _ _ _ => false)
    (fun _ ih l LF ND => fw_if (Nat.beq l (fw_g LV en)) (k LF) (fw_nl adj bk LV G l (fun LF ND => @Bool.rec (fun _ => Bool) (ih (Nat.succ l) LF ND) (fw_if (Nat.beq l 0) false (ih (Nat.pred l) LF ND)) bk) 16 0 LF ND)) F
noncomputable def fw_spr (adj : Nat → List (Nat × Nat)) (bk : Bool) (LV G st en am LF : Nat) (k : Nat → Bool) : Bool :=
  fw_if (Nat.ble am 255) (fw_ll adj bk LV G en k 18 (fw_g LV st) LF (fw_s 0 st am)) false
section
variable {pr so si ed fl qf qs oc : Int32} {a1 a2 a3 a4 a6 a7 a8 a9 a10 a11 a12 a13 a14 a15 a16 a18 a19 : Nat → Int32}
theorem fw_nl_l {post : St2 → Prop} {J : Int32 → Int32 → Int32 → Int32 → Int32 → Int32 → Int32 → Int32 → Int32 → (Nat → Int32) → (Nat → Int32) → (Nat → Int32) → (Nat → Int32) → (Nat → Int32) → (Nat → Int32) → (Nat → Int32) → (Nat → Int32) → (Nat → Int32) → (Nat → Int32) → (Nat → Int32) → (Nat → Int32) → (Nat → Int32) → (Nat → Int32) → (Nat → Int32) → (Nat → Int32) → (Nat → Int32) → (Nat → Int32) → (Nat → Int32) → Prop}
    {x4 x5 : Int32} {adj : Nat → List (Nat × Nat)} {TO NX FS E LV G l : Nat} {k : Nat → Nat → Bool} (bk : Bool) (hN : fw_Net adj TO NX FS E a4 a6 a7) (h8 : fw_O 16 a8 LV) (h16 : fw_M 16 a16 G) (hl : l < 65536)
    (hp : ∀ (a5' a17' : Nat → Int32) (LF' ND' : Nat), fw_A E a5' LF' → fw_A 16 a17' ND' → k LF' ND' = true → J (fw_o l + x5) pr so si ed fl qf qs oc a1 a2 a3 a4 a5' a6 a7 a8 a9 a10 a11 a12 a13 a14 a15 a16 a17' a18 a19) :
    ∀ (F i LF ND : Nat) (a5 a17 : Nat → Int32), i + F = 16 → fw_A E a5 LF → fw_A 16 a17 ND → fw_nl adj bk LV G l k F i LF ND = true → wX_spread_85 post J (fw_bI bk) x4 x5 (fw_o l) (F + 1) (nI i) pr so si ed fl qf qs oc a1 a2 a3 a4 a5 a6 a7 a8 a9 a10 a11 a12 a13 a14 a15 a16 a17 a18 a19 := by
  intro F
  induction F with
  | zero =>
    intro i LF ND a5 a17 hi h5 h17 hm
    exact br_t (by rw [show i = 16 by omega]; decide) (nm_e (hp _ _ _ _ h5 h17 hm))
  | succ F ih =>
    intro i LF ND a5 a17 hi h5 h17 hm
    have ii : vp_in (nI i) 16 := pk_in i 16 (by omega)
    have r16 : a16 (nI i).toNatClampNeg = nI (fw_b G i) := fw_rd (h16 _ (by omega)) (by omega)
    have r17 : a17 (nI i).toNatClampNeg = nI (fw_g ND i) := fw_rd (h17 _ (by omega)) (by omega)
    have r8 : a8 (nI i).toNatClampNeg = fw_o (fw_g LV i) := fw_rd (h8 _ (by omega)) (by omega)
    have g1 := fw_b_2 G i
    have g2 := fw_g_lt ND i
    have g3 := fw_g_lt LV i
    refine br_f (nI_ge (b := 16) (by omega) (by decide)) ⟨ii, ?_⟩
    by_cases cg : fw_b G i = 0
    · refine br_t (by rw [r16, cg]; rfl) ⟨ii, ?_⟩
      by_cases cl : fw_g LV i = l
      · refine br_t (by rw [r8, cl]) ⟨ii, ?_⟩
        rcases fw_ifE hm with ⟨c, hm⟩ | ⟨c, hm⟩
        · have c := fw_eq c
          exact br_t (by rw [r17, c]; decide) (nm_r (nI_1 i) (ih _ _ _ _ _ (by omega) h5 h17 hm))
        · have c := fw_ne c
          refine br_f (by rw [r17]; exact nI_nle (by omega) (by omega)) ?_
          rcases fw_ifE hm with ⟨c1, hm⟩ | ⟨c1, hm⟩
          · rcases fw_ifE hm with ⟨c2, hm⟩ | ⟨c2, hm⟩
            · exact ⟨ii, nm_r (fw_rd rfl (by omega)) ⟨_, fw_sf_l bk hN.1 h8 h16 (by omega) (fun a5' a17' LF' ND' h5' h17' hm' => nm_r (nI_1 i) (ih _ _ _ _ _ (by omega) h5' h17' hm')) (adj i) _ LF ND _ _ (hN.2.1 i (by omega)) h5 h17 hm⟩⟩
            · exact absurd cl (fw_ne c2)
          · exact absurd cg (fw_ne c1)
      · refine br_f (by rw [r8, fw_o_eq (by omega) (by omega)]; exact cl) (nm_r (nI_1 i) (ih _ _ _ _ _ (by omega) h5 h17 ?_))
        rcases fw_ifE hm with ⟨c, hm⟩ | ⟨c, hm⟩
        · exact hm
        rcases fw_ifE hm with ⟨c1, hm⟩ | ⟨c1, hm⟩
        · rcases fw_ifE hm with ⟨c2, hm⟩ | ⟨c2, hm⟩
          · exact absurd (fw_eq c2) cl
          · exact hm
        · exact hm
    · refine br_f (by rw [r16]; exact nI_ne0 (by omega) (by omega)) (nm_r (nI_1 i) (ih _ _ _ _ _ (by omega) h5 h17 ?_))
      rcases fw_ifE hm with ⟨c, hm⟩ | ⟨c, hm⟩
      · exact hm
      rcases fw_ifE hm with ⟨c1, hm⟩ | ⟨c1, hm⟩
      · exact absurd (fw_eq c1) cg
      · exact hm
theorem fw_ll_l {post : St2 → Prop} {adj : Nat → List (Nat × Nat)} {TO NX FS E LV G en : Nat} {k : Nat → Bool} (bk : Bool) (hN : fw_Net adj TO NX FS E a4 a6 a7) (h8 : fw_O 16 a8 LV) (h16 : fw_M 16 a16 G) (hen : en < 16)
    (hp : ∀ (a5' a17' : Nat → Int32) (LF' : Nat), fw_A E a5' LF' → k LF' = true → post (pr, so, si, ed, fl, qf, qs, oc, a1, a2, a3, a4, a5', a6, a7, a8, a9, a10, a11, a12, a13, a14, a15, a16, a17', a18, a19)) :
    ∀ (F l LF ND : Nat) (a5 a17 : Nat → Int32), l + F < 60000 → fw_A E a5 LF → fw_A 16 a17 ND → fw_ll adj bk LV G en k F l LF ND = true → wX_spread_70 post (fw_bI bk) (nI en) (@Bool.rec (fun _ => Int32) 1 (-1) bk) F (fw_o l) pr so si ed fl qf qs oc a1 a2 a3 a4 a5 a6 a7 a8 a9 a10 a11 a12 a13 a14 a15 a16 a17 a18 a19 := by
  intro F
  induction F with
  | zero =>
    intro l LF ND a5 a17 _ _ _ hm
    exact absurd hm (by intro z; cases z)
  | succ F ih =>
    intro l LF ND a5 a17 hl h5 h17 hm
    have r8 : a8 (nI en).toNatClampNeg = fw_o (fw_g LV en) := fw_rd (h8 _ hen) (by omega)
    have g3 := fw_g_lt LV en
    refine ⟨pk_in en 16 hen, ?_⟩
    rcases fw_ifE hm with ⟨c, hm⟩ | ⟨c, hm⟩
    · have c := fw_eq c
      exact br_t (by rw [r8, c]) (hp _ _ _ h5 hm)
    · have c := fw_ne c
      refine br_f (by rw [r8, fw_o_eq (by omega) (by omega)]; exact c) ⟨17, fw_nl_l bk hN h8 h16 (by omega) (fun a5' a17' LF' ND' h5' h17' hm' => ?_) 16 0 LF ND a5 a17 (by omega) h5 h17 hm⟩
      cases bk with
      | false =>
        have e : fw_o l + 1 = fw_o (l + 1) := by rw [fw_o1, fw_oS]
        show wX_spread_70 post (fw_bI false) (nI en) 1 F (fw_o l + 1) pr so si ed fl qf qs oc a1 a2 a3 a4 a5' a6 a7 a8 a9 a10 a11 a12 a13 a14 a15 a16 a17' a18 a19
        rw [e]
        exact ih (l + 1) _ _ _ _ (by omega) h5' h17' hm'
      | true =>
        obtain ⟨c1, hm'⟩ := fw_ifN hm'
        have c1 := fw_ne c1
        have e : fw_o l + (-1) = fw_o (Nat.pred l) := by
          rw [fw_oP c1]
          rfl
        show wX_spread_70 post (fw_bI true) (nI en) (-1) F (fw_o l + (-1)) pr so si ed fl qf qs oc a1 a2 a3 a4 a5' a6 a7 a8 a9 a10 a11 a12 a13 a14 a15 a16 a17' a18 a19
        rw [e]
        exact ih (Nat.pred l) _ _ _ _ (by rw [Nat.pred_eq_sub_one]; omega) h5' h17' hm'
theorem fw_spr_w {post : St2 → Prop} (a5 a17 : Nat → Int32) {x : Int32} {adj : Nat → List (Nat × Nat)} {TO NX FS E LF LV G st en s t am : Nat} {k : Nat → Bool} (bk : Bool) (ex : x = fw_bI bk) (he : en = @Bool.rec (fun _ => Nat) t s bk) (hN : fw_Net adj TO NX FS E a4 a6 a7) (h5 : fw_A E a5 LF) (h8 : fw_O 16 a8 LV) (h16 : fw_M 16 a16 G) (hst : st < 16) (hs : s < 16) (ht : t < 16)
    (hm : fw_spr adj bk LV G st en am LF k = true)
    (hp : ∀ (a5' a17' : Nat → Int32) (LF' : Nat), fw_A E a5' LF' → k LF' = true → post (pr, nI s, nI t, ed, fl, qf, qs, oc, a1, a2, a3, a4, a5', a6, a7, a8, a9, a10, a11, a12, a13, a14, a15, a16, a17', a18, a19)) :
    wpX_spread post (pr, nI s, nI t, ed, fl, qf, qs, oc, a1, a2, a3, a4, a5, a6, a7, a8, a9, a10, a11, a12, a13, a14, a15, a16, a17, a18, a19) (nI st) (nI am) x := by
  subst ex
  subst he
  obtain ⟨c, hm⟩ := fw_ifA hm
  have c := fw_le c
  refine pk_loop (fun f i a => wX_spread_3 post (nI st) (nI am) (fw_bI bk) pr (nI s) (nI t) ed fl qf qs oc f (nI i) a1 a2 a3 a4 a5 a6 a7 a8 a9 a10 a11 a12 a13 a14 a15 a16 a a18 a19) (fun i a => ∀ j, j < i → a j = nI (if j = st then am else 0)) 16 0 a17 (by omega) (fun j hj => absurd hj (by omega)) ?_ ?_
  · intro f a h
    have h17 : fw_A 16 a (fw_s 0 st am) := by
      intro j hj
      rw [h j hj, fw_g_e _ _ _ (by omega), fw_g_0]
    have g3 := fw_g_lt LV st
    have r8 : a8 (nI st).toNatClampNeg = fw_o (fw_g LV st) := fw_rd (h8 _ hst) (by omega)
    refine pk_le 16 16 (fun _ => ?_) (fun z => absurd z (by omega))
    cases bk with
    | false => exact br_t rfl (br_t rfl ⟨pk_in st 16 hst, nm_r r8 ⟨18, fw_ll_l false hN h8 h16 ht (fun a5' a17' LF' h5' hm' => hp _ _ _ h5' hm') 18 _ LF _ a5 a (by omega) h5 h17 hm⟩⟩)
    | true => exact br_f (by decide) (br_f (by decide) ⟨pk_in st 16 hst, nm_r r8 ⟨18, fw_ll_l true hN h8 h16 hs (fun a5' a17' LF' h5' hm' => hp _ _ _ h5' hm') 18 _ LF _ a5 a (by omega) h5 h17 hm⟩⟩)
  · intro f i a hi h hw
    refine pk_le 16 i (fun z => absurd z (by omega)) (fun _ => ?_)
    have up : ∀ y : Nat, y = (if i = st then am else 0) → ∀ j, j < i + 1 → upd a i (nI y) j = nI (if j = st then am else 0) := by
      intro y ey j hj
      by_cases e : j = i
      · rw [e, pk_us, ey]
      · rw [pk_un e]
        exact h j (by omega)
    by_cases e : i = st
    · exact br_t (by rw [e]) ⟨pk_in i 16 hi, nm_r (fw_ud (y := nI am) (by omega) rfl) (nm_r (nI_1 i) (hw _ (up am (by rw [if_pos e]))))⟩
    · exact br_f (by rw [nI_eq (by omega) (by omega)]; exact e) ⟨pk_in i 16 hi, nm_r (fw_ud (y := nI 0) (by omega) rfl) (nm_r (nI_1 i) (hw _ (up 0 (by rw [if_neg e]))))⟩
end
noncomputable def fw_fw (adj : Nat → List (Nat × Nat)) (s t LV : Nat) (k : Nat → Nat → Bool) (F : Nat) : Nat → Nat → Nat → Bool :=
  @Nat.rec (fun _ => Nat → Nat → Nat → Bool) (fun _ _ _ => false)
    (fun _ ih G LF fl => fw_if (Nat.beq (fw_b G s) 0) (fw_if (Nat.beq (fw_b G t) 0)
      (fw_wk adj s t LF LV G (fun b l => fw_if (Nat.beq b 0) false ((fun n => fw_if (Nat.beq l 0) (ih (fw_on G n) LF fl)
        (fw_spr adj false LV G n t l LF (fun LF => fw_spr adj true LV G n s l LF (fun LF => ih (fw_on G n) LF (Nat.add fl l))))) (Nat.pred b))) 16 0 0 1048576)
      (k LF fl)) (k LF fl)) F
section
variable {pr so si ed qf qs oc : Int32} {a1 a2 a3 a4 a6 a7 a8 a9 a10 a11 a12 a13 a14 a15 a18 a19 : Nat → Int32}
theorem fw_fw_l {post : St2 → Prop} {adj : Nat → List (Nat × Nat)} {TO NX FS E LV s t : Nat} {k : Nat → Nat → Bool} (hN : fw_Net adj TO NX FS E a4 a6 a7) (h8 : fw_O 16 a8 LV) (hs : s < 16) (ht : t < 16)
    (hp : ∀ (a5' a16' a17' : Nat → Int32) (LF' n' : Nat), fw_A E a5' LF' → k LF' n' = true → post (pr, nI s, nI t, ed, nI n', qf, qs, oc, a1, a2, a3, a4, a5', a6, a7, a8, a9, a10, a11, a12, a13, a14, a15, a16', a17', a18, a19)) :
    ∀ (F G LF n : Nat) (a5 a16 a17 : Nat → Int32), fw_M 16 a16 G → fw_A E a5 LF → fw_fw adj s t LV k F G LF n = true → wX_fillByWeakest_0 post F pr (nI s) (nI t) ed (nI n) qf qs oc a1 a2 a3 a4 a5 a6 a7 a8 a9 a10 a11 a12 a13 a14 a15 a16 a17 a18 a19 := by
  intro F
  induction F with
  | zero =>
    intro G LF n a5 a16 a17 _ _ hm
    exact absurd hm (by intro z; cases z)
  | succ F ih =>
    intro G LF n a5 a16 a17 h16 h5 hm
    have rs : a16 (nI s).toNatClampNeg = nI (fw_b G s) := fw_rd (h16 _ hs) (by omega)
    have rt : a16 (nI t).toNatClampNeg = nI (fw_b G t) := fw_rd (h16 _ ht) (by omega)
    have g1 := fw_b_2 G s
    have g2 := fw_b_2 G t
    refine ⟨pk_in s 16 hs, ?_⟩
    rcases fw_ifE hm with ⟨c, hm⟩ | ⟨c, hm⟩
    · have c := fw_eq c
      refine br_t (by rw [rs, c]; rfl) ⟨pk_in t 16 ht, ?_⟩
      rcases fw_ifE hm with ⟨c1, hm⟩ | ⟨c1, hm⟩
      · have c1 := fw_eq c1
        refine br_t (by rw [rt, c1]; rfl) (fw_wk_w hN hs ht h5 h8 h16 hm (fun b l hb hl hm' => ?_))
        obtain ⟨c2, hm'⟩ := fw_ifN hm'
        have c2 := fw_ne c2
        have rb : fw_o b = nI (Nat.pred b) := by rw [fw_oP c2]; rfl
        have hb' : Nat.pred b < 16 := by rw [Nat.pred_eq_sub_one]; omega
        rw [rb]
        have ib : vp_in (nI (Nat.pred b)) 16 := fw_in hb'
        refine nm_r (e' := nI l) pk_us ?_
        rcases fw_ifE hm' with ⟨c3, hm'⟩ | ⟨c3, hm'⟩
        · have c3 := fw_eq c3
          exact br_t (by rw [c3]; decide) ⟨ib, nm_r (fw_ud (y := 1) (by omega) rfl) (ih _ _ _ _ _ _ (fw_Mu1 h16 _) h5 hm')⟩
        · have c3 := fw_ne c3
          refine br_f (nI_nle (by omega) (by omega)) (fw_spr_w a5 _ (t := t) (s := s) false rfl rfl hN h5 h8 h16 hb' hs ht hm' (fun a52 a172 LF2 h52 hm2 => fw_spr_w a52 _ (t := t) (s := s) true rfl rfl hN h52 h8 h16 hb' hs ht hm2 (fun a53 a173 LF3 h53 hm3 => ?_)))
          have := ih _ LF3 (Nat.add n l) a53 _ a173 (fw_Mu1 h16 (Nat.pred b)) h53 hm3
          rw [show nI (Nat.add n l) = nI n + nI l from (nI_add n l).symm] at this
          exact nm_e ⟨ib, nm_r (fw_ud (y := 1) (by omega) rfl) this⟩
      · have c1 := fw_ne c1
        exact br_f (by rw [rt]; exact nI_ne0 (by omega) (by omega)) (hp _ _ _ _ _ h5 hm)
    · have c := fw_ne c
      exact br_f (by rw [rs]; exact nI_ne0 (by omega) (by omega)) (hp _ _ _ _ _ h5 hm)
end
noncomputable def fw_gn (t LV : Nat) (k : Nat → Bool) (F : Nat) : Nat → Nat → Bool :=
  @Nat.rec (fun _ => Nat → Nat → Bool) (fun _ G => k G)
    (fun _ ih i G => (fun l => fw_if (Nat.beq l 0) (ih (Nat.succ i) (fw_on G i)) (fw_if (Nat.beq i t) (ih (Nat.succ i) G) (fw_if (Nat.ble (fw_g LV t) l) (ih (Nat.succ i) (fw_on G i)) (ih (Nat.succ i) G)))) (fw_g LV i)) F
noncomputable def fw_e5 (adj : Nat → List (Nat × Nat)) (s t H : Nat) (k : Nat → Nat → Bool) (F : Nat) : Nat → Nat → Bool :=
  @Nat.rec (fun _ => Nat → Nat → Bool) (fun _ _ => false)
    (fun _ ih LF fl => fw_find adj s 1 LF (fun LV _ => fw_if (Nat.beq (fw_g LV t) 0) (k LF fl) (fw_gn t LV (fun G => fw_fw adj s t LV ih H G LF fl) 16 0 0))) F
section
variable {pr so si ed fl qf qs oc : Int32} {a1 a2 a3 a4 a5 a6 a7 a8 a9 a10 a11 a12 a13 a14 a15 a17 a18 a19 : Nat → Int32}
theorem fw_gn_l {post : St2 → Prop} {J : Int32 → Int32 → Int32 → Int32 → Int32 → Int32 → Int32 → Int32 → (Nat → Int32) → (Nat → Int32) → (Nat → Int32) → (Nat → Int32) → (Nat → Int32) → (Nat → Int32) → (Nat → Int32) → (Nat → Int32) → (Nat → Int32) → (Nat → Int32) → (Nat → Int32) → (Nat → Int32) → (Nat → Int32) → (Nat → Int32) → (Nat → Int32) → (Nat → Int32) → (Nat → Int32) → (Nat → Int32) → (Nat → Int32) → Prop}
    {LV t : Nat} {k : Nat → Bool} (h8 : fw_O 16 a8 LV) (ht : t < 16)
    (hp : ∀ (a16' : Nat → Int32) (G' : Nat), fw_M 16 a16' G' → k G' = true → wpX_fillByWeakest (fun u => match u with | (pr', so', si', ed', fl', qf', qs', oc', b1, b2, b3, b4, b5, b6, b7, b8, b9, b10, b11, b12, b13, b14, b15, b16, b17, b18, b19) => J pr' so' si' ed' fl' qf' qs' oc' b1 b2 b3 b4 b5 b6 b7 b8 b9 b10 b11 b12 b13 b14 b15 b16 b17 b18 b19) (pr, so, nI t, ed, fl, qf, qs, oc, a1, a2, a3, a4, a5, a6, a7, a8, a9, a10, a11, a12, a13, a14, a15, a16', a17, a18, a19)) :
    ∀ (F i G : Nat) (a16 : Nat → Int32), i + F = 16 → fw_M i a16 G → (∀ j, i ≤ j → fw_b G j = 0) → fw_gn t LV k F i G = true → wX_solveByWeakestNodes_10 post J pr so (nI t) ed fl qf qs oc (F + 1) (nI i) a1 a2 a3 a4 a5 a6 a7 a8 a9 a10 a11 a12 a13 a14 a15 a16 a17 a18 a19 := by
  intro F
  induction F with
  | zero =>
    intro i G a16 hi h16 _ hm
    exact br_t (by rw [show i = 16 by omega]; decide) (hp _ _ (by rw [show i = 16 by omega] at h16; exact h16) hm)
  | succ F ih =>
    intro i G a16 hi h16 h0 hm
    have ii : vp_in (nI i) 16 := pk_in i 16 (by omega)
    have r8 : a8 (nI i).toNatClampNeg = fw_o (fw_g LV i) := fw_rd (h8 _ (by omega)) (by omega)
    have r8t : a8 (nI t).toNatClampNeg = fw_o (fw_g LV t) := fw_rd (h8 _ ht) (by omega)
    have g3 := fw_g_lt LV i
    have g4 := fw_g_lt LV t
    have on : fw_gn t LV k F (Nat.succ i) (fw_on G i) = true → wX_solveByWeakestNodes_10 post J pr so (nI t) ed fl qf qs oc (F + 1) (nI (i + 1)) a1 a2 a3 a4 a5 a6 a7 a8 a9 a10 a11 a12 a13 a14 a15 (upd a16 i 1) a17 a18 a19 := by
      intro hm
      refine ih _ _ _ (by omega) ?_ ?_ hm
      · intro j hj
        rw [fw_b_on]
        by_cases e : j = i
        · rw [if_pos e, e, pk_us]
          rfl
        · rw [if_neg e, pk_un e]
          exact h16 j (by omega)
      · intro j hj
        rw [fw_b_on, if_neg (by omega)]
        exact h0 j (by omega)
    have off : fw_gn t LV k F (Nat.succ i) G = true → wX_solveByWeakestNodes_10 post J pr so (nI t) ed fl qf qs oc (F + 1) (nI (i + 1)) a1 a2 a3 a4 a5 a6 a7 a8 a9 a10 a11 a12 a13 a14 a15 (upd a16 i 0) a17 a18 a19 := by
      intro hm
      refine ih _ _ _ (by omega) ?_ (fun j hj => h0 j (by omega)) hm
      intro j hj
      by_cases e : j = i
      · rw [e, pk_us, h0 i (by omega)]
        rfl
      · rw [pk_un e]
        exact h16 j (by omega)
    have u1 : upd a16 (nI i).toNatClampNeg 1 = upd a16 i 1 := fw_ud (by omega) rfl
    have u0 : upd a16 (nI i).toNatClampNeg 0 = upd a16 i 0 := fw_ud (by omega) rfl
    refine br_f (nI_ge (b := 16) (by omega) (by decide)) ⟨ii, ?_⟩
    rcases fw_ifE hm with ⟨c, hm⟩ | ⟨c, hm⟩
    · have c := fw_eq c
      exact br_t (by rw [r8, c]; decide) ⟨ii, nm_r u1 (nm_r (nI_1 i) (on hm))⟩
    · have c := fw_ne c
      refine br_f (by rw [r8, fw_o_neg (by omega)]; exact c) ?_
      rcases fw_ifE hm with ⟨c1, hm⟩ | ⟨c1, hm⟩
      · have c1 := fw_eq c1
        exact br_t (by rw [c1]) ⟨ii, nm_r u0 (nm_r (nI_1 i) (off hm))⟩
      · have c1 := fw_ne c1
        refine br_f (by rw [nI_eq (by omega) (by omega)]; exact c1) ⟨ii, pk_in t 16 ht, ?_⟩
        rcases fw_ifE hm with ⟨c2, hm⟩ | ⟨c2, hm⟩
        · have c2 := fw_le c2
          exact br_f (by rw [r8, r8t, fw_o_lt (by omega) (by omega)]; omega) ⟨ii, nm_r u1 (nm_r (nI_1 i) (on hm))⟩
        · have c2 := fw_gt c2
          exact br_t (by rw [r8, r8t, fw_o_lt (by omega) (by omega)]; omega) ⟨ii, nm_r u0 (nm_r (nI_1 i) (off hm))⟩
end
section
variable {pr so si ed oc : Int32} {a1 a2 a3 a4 a6 a7 a9 a11 a12 a15 a18 a19 : Nat → Int32}
theorem fw_e5_w {post : St2 → Prop} {adj : Nat → List (Nat × Nat)} {TO NX FS E s t H : Nat} {k : Nat → Nat → Bool} (hN : fw_Net adj TO NX FS E a4 a6 a7) (hs : s < 16) (ht : t < 16)
    (hp : ∀ (fl' qf' qs' : Int32) (a5' a8' a10' a13' a14' a16' a17' : Nat → Int32) (LF' n' : Nat), fw_A E a5' LF' → fl' = nI n' → k LF' n' = true → post (pr, nI s, nI t, ed, fl', qf', qs', oc, a1, a2, a3, a4, a5', a6, a7, a8', a9, a10', a11, a12, a13', a14', a15, a16', a17', a18, a19)) :
    ∀ (F LF n : Nat) (qf qs : Int32) (a5 a8 a10 a13 a14 a16 a17 : Nat → Int32), fw_A E a5 LF → fw_e5 adj s t H k F LF n = true → wX_solveByWeakestNodes_0 post F pr (nI s) (nI t) ed (nI n) qf qs oc a1 a2 a3 a4 a5 a6 a7 a8 a9 a10 a11 a12 a13 a14 a15 a16 a17 a18 a19 := by
  intro F
  induction F with
  | zero =>
    intro LF n qf qs a5 a8 a10 a13 a14 a16 a17 _ hm
    exact absurd hm (by intro z; cases z)
  | succ F ih =>
    intro LF n qf qs a5 a8 a10 a13 a14 a16 a17 h5 hm
    refine fw_find_w (least := 1) hN h5 (by omega) hs ht hm (fun qf' qs' a8' a10' a13' a14' LV' CB' h8' h10' hm' => ?_)
    rcases fw_ifE hm' with ⟨c, hm'⟩ | ⟨c, hm'⟩
    · have c := fw_eq c
      exact br_t (by rw [if_pos c]) (hp _ _ _ _ _ _ _ _ _ _ _ _ h5 rfl hm')
    · have c := fw_ne c
      exact br_f (by rw [if_neg c]; decide) ⟨17, fw_gn_l h8' ht (fun a16' G' h16' hm'' => ⟨H, fw_fw_l hN h8' hs ht (fun a52 a162 a172 LF2 n2 h52 hm2 => ih _ _ _ _ _ _ _ _ _ _ _ h52 hm2) H G' LF n a5 a16' a17 h16' h5 hm''⟩) 16 0 0 a16 (by omega) (fun j hj => absurd hj (by omega)) (fun j _ => fw_b_0 j) hm'⟩
end
end
section
/-! engine 6: two trees -/
noncomputable def fw_nb (tn : Nat) : Bool := @Bool.rec (fun _ => Bool) true false (Nat.beq tn 1)
noncomputable def fw_gr (bk : Bool) (LF tn : Nat) (k : Nat → Nat → Nat → Nat → Nat → Nat → Bool) (L : List (Nat × Nat)) : Nat → Nat → Nat → Nat → Nat → Bool :=
  @List.rec (Nat × Nat) (fun _ => Nat → Nat → Nat → Nat → Nat → Bool) (fun TR CB Q m M => k 0 TR CB Q m M)
    (fun p _ ih TR CB Q m M => fw_if (Nat.beq (fw_g LF (fw_al bk p.1)) 0) (ih TR CB Q m M) ((fun tv => fw_if (Nat.beq tv 0)
      (fw_enq Q m M p.2 (fun Q m M => ih (fw_s TR p.2 tn) (fw_s CB p.2 (Nat.succ (fw_al bk p.1))) Q m M))
      (fw_if (Nat.beq tv tn) (ih TR CB Q m M) (k (Nat.succ (fw_al bk p.1)) TR CB Q m M))) (fw_g TR p.2))) L
theorem fw_nbT {tn : Nat} (h : tn = 1) : fw_nb tn = false := by subst h; rfl
theorem fw_nbF {tn : Nat} (h : tn ≠ 1) : fw_nb tn = true := by
  unfold fw_nb
  have : Nat.beq tn 1 = false := by
    cases e : Nat.beq tn 1 with
    | false => rfl
    | true => exact absurd (fw_eq e) h
  rw [this]
section
variable {pr so si ed fl qf qs oc : Int32} {a1 a2 a3 a4 a5 a6 a7 a8 a9 a10 a11 a12 a13 a14 a15 a16 a17 a18 a19 : Nat → Int32}
theorem fw_op_w {post : Int32 → Prop} {E LF n e tn : Nat} (hE : E ≤ 56) (h5 : fw_A E a5 LF) (hn : n < 16) (ht : tn < 128) (r18 : a18 n = nI tn) (he : e < E) (hx : Nat.xor e 1 < E)
    (h0 : fw_g LF (fw_al (fw_nb tn) e) = 0 → post 0) (h1 : fw_g LF (fw_al (fw_nb tn) e) ≠ 0 → post 1) : wpX_isOpen post (pr, so, si, ed, fl, qf, qs, oc, a1, a2, a3, a4, a5, a6, a7, a8, a9, a10, a11, a12, a13, a14, a15, a16, a17, a18, a19) (nI n) (nI e) := by
  have r18 : a18 (nI n).toNatClampNeg = nI tn := fw_rd r18 (by omega)
  refine ⟨pk_in n 16 hn, ?_⟩
  by_cases e1 : tn = 1
  · rw [fw_nbT e1] at h0 h1
    have r5 : a5 (nI e).toNatClampNeg = nI (fw_g LF e) := fw_rd (h5 _ he) (by omega)
    have gl := fw_g_lt LF e
    refine br_t (by rw [r18, e1]; rfl) ⟨pk_in e 56 (by omega), ?_⟩
    by_cases c : fw_g LF e = 0
    · exact br_t (by rw [r5, c]; decide) (h0 c)
    · exact br_f (by rw [r5]; exact nI_nle (by omega) (by omega)) (h1 c)
  · rw [fw_nbF e1] at h0 h1
    have r5 : a5 (nI (Nat.xor e 1)).toNatClampNeg = nI (fw_g LF (Nat.xor e 1)) := fw_rd (h5 _ hx) (by omega)
    have gl := fw_g_lt LF (Nat.xor e 1)
    refine br_f (by rw [r18]; exact fun z => e1 ((nI_eq (b := 1) (by omega) (by omega)).mp z)) ?_
    rw [fw_x1 _ (by omega)]
    refine ⟨fw_in (by omega), ?_⟩
    by_cases c : fw_g LF (Nat.xor e 1) = 0
    · exact br_t (by rw [r5, c]; decide) (h0 c)
    · exact br_f (by rw [r5]; exact nI_nle (by omega) (by omega)) (h1 c)
end
section
variable {pr so si ed fl qf oc : Int32} {a1 a2 a3 a4 a5 a6 a7 a8 a9 a11 a12 a15 a16 a17 a19 : Nat → Int32}
theorem fw_gr_l {post : Int32 → St2 → Prop} {E LF n tn : Nat} {k : Nat → Nat → Nat → Nat → Nat → Nat → Bool} (hE : E ≤ 56) (h5 : fw_A E a5 LF) (hn : n < 16) (ht0 : tn ≠ 0) (ht : tn < 128)
    (hp : ∀ (qs' : Int32) (a10' a13' a14' a18' : Nat → Int32) (br TR' CB' Q' m' M' : Nat), br ≤ E → fw_A 16 a18' TR' → fw_O 16 a10' CB' → fw_Q qf qs' a13' a14' Q' m' M' → k br TR' CB' Q' m' M' = true → post (fw_o br) (pr, so, si, ed, fl, qf, qs', oc, a1, a2, a3, a4, a5, a6, a7, a8, a9, a10', a11, a12, a13', a14', a15, a16, a17, a18', a19)) :
    ∀ (L : List (Nat × Nat)) (x : Int32) (TR CB Q m M : Nat) (qs : Int32) (a10 a13 a14 a18 : Nat → Int32), fw_Ch a4 a7 n E L x → fw_A 16 a18 TR → fw_g TR n = tn → fw_O 16 a10 CB → fw_Q qf qs a13 a14 Q m M → fw_gr (fw_nb tn) LF tn k L TR CB Q m M = true →
      wX_grow_7 post (nI n) (L.length + 1) x pr so si ed fl qf qs oc a1 a2 a3 a4 a5 a6 a7 a8 a9 a10 a11 a12 a13 a14 a15 a16 a17 a18 a19 := by
  intro L
  induction L with
  | nil =>
    intro x TR CB Q m M qs a10 a13 a14 a18 hc h18 _ h10 hq hm
    have hx : x = -1 := hc
    subst hx
    exact br_t (by decide) (hp _ _ _ _ _ 0 _ _ _ _ _ (by omega) h18 h10 hq hm)
  | cons p L ih =>
    intro x TR CB Q m M qs a10 a13 a14 a18 hc h18 htn h10 hq hm
    obtain ⟨hx, he, hx1, h4, hv, _, hc⟩ := hc
    subst hx
    have i1 : vp_in (nI p.1) 56 := pk_in p.1 56 (by omega)
    have iN : vp_in (nI n) 16 := pk_in n 16 hn
    have iv : vp_in (nI p.2) 16 := pk_in p.2 16 hv
    have r4 : a4 (nI p.1).toNatClampNeg = nI p.2 := fw_rd h4 (by omega)
    have r7 : a7 (nI p.1).toNatClampNeg = a7 p.1 := fw_rd rfl (by omega)
    have r18 : a18 (nI n).toNatClampNeg = nI tn := by rw [fw_cl (by omega), h18 n hn, htn]
    have r18v : a18 (nI p.2).toNatClampNeg = nI (fw_g TR p.2) := fw_rd (h18 _ hv) (by omega)
    have gv := fw_g_lt TR p.2
    have hal : fw_al (fw_nb tn) p.1 < E := by
      by_cases e : tn = 1
      · rw [fw_nbT e]; exact he
      · rw [fw_nbF e]; exact hx1
    refine br_f (nI_pos (by omega)) ⟨i1, nm_r r4 (fw_op_w hE h5 hn ht (by rw [h18 n hn, htn]) he hx1 (fun c => ?_) (fun c => ?_))⟩
    · rcases fw_ifE hm with ⟨c', hm⟩ | ⟨c', hm⟩
      · exact br_t rfl ⟨i1, nm_r r7 (ih _ _ _ _ _ _ _ _ _ _ _ hc h18 htn h10 hq hm)⟩
      · exact absurd c (fw_ne c')
    · rcases fw_ifE hm with ⟨c', hm⟩ | ⟨c', hm⟩
      · exact absurd (fw_eq c') c
      refine br_f (by decide) ⟨iv, ?_⟩
      rcases fw_ifE hm with ⟨c1, hm⟩ | ⟨c1, hm⟩
      · have c1 := fw_eq c1
        have nv : n ≠ p.2 := fun z => ht0 (by rw [← htn, z]; exact c1)
        refine br_t (by rw [r18v, c1]; rfl) ⟨iN, iv, nm_r (fw_ud (y := nI tn) (by omega) (by rw [r18]; exact fw_nby ht)) ⟨iN, ?_⟩⟩
        have r18n : upd a18 p.2 (nI tn) (nI n).toNatClampNeg = nI tn := by rw [fw_cl (by omega), pk_un nv, h18 n hn, htn]
        have h18' := fw_Au h18 p.2 (show tn < 256 by omega)
        have htn' : fw_g (fw_s TR p.2 tn) n = tn := by rw [fw_g_n _ _ _ (by omega) nv, htn]
        have put : ∀ w : Int32, w = nI (fw_al (fw_nb tn) p.1) → wX_grow_70 post (wX_grow_7 post (nI n) (L.length + 1)) (nI n) (nI p.1) (nI p.2) w (nI p.2) pr so si ed fl qf qs oc a1 a2 a3 a4 a5 a6 a7 a8 a9 a10 a11 a12 a13 a14 a15 a16 a17 (upd a18 p.2 (nI tn)) a19 := by
          intro w ew
          subst ew
          refine ⟨iv, nm_r (fw_ud (y := fw_o (Nat.succ (fw_al (fw_nb tn) p.1))) (by omega) (by rw [fw_by _ (by omega), fw_oS])) (fw_enq_w hq hv hm (fun qs' a13' a14' Q' m' M' hq' hm' => ⟨i1, nm_r r7 (ih _ _ _ _ _ _ _ _ _ _ _ hc h18' htn' (fw_Ou h10 _ (by omega)) hq' hm')⟩))⟩
        by_cases e : tn = 1
        · exact br_t (by rw [r18n, e]; rfl) (put _ (by rw [fw_nbT e]; rfl))
        · exact br_f (by rw [r18n]; exact fun z => e ((nI_eq (b := 1) (by omega) (by omega)).mp z)) (put _ (by rw [fw_nbF e, fw_x1 _ (by omega)]; rfl))
      · have c1 := fw_ne c1
        refine br_f (by rw [r18v]; exact nI_ne0 (by omega) (by omega)) ⟨iv, iN, ?_⟩
        rcases fw_ifE hm with ⟨c2, hm⟩ | ⟨c2, hm⟩
        · have c2 := fw_eq c2
          exact br_t (by rw [r18v, r18, c2]) ⟨i1, nm_r r7 (ih _ _ _ _ _ _ _ _ _ _ _ hc h18 htn h10 hq hm)⟩
        · have c2 := fw_ne c2
          refine br_f (by rw [r18v, r18, nI_eq (by omega) (by omega)]; exact c2) ⟨iN, ?_⟩
          have P := hp _ _ _ _ _ _ _ _ _ _ _ (show Nat.succ (fw_al (fw_nb tn) p.1) ≤ E by omega) h18 h10 hq hm
          rw [fw_oS] at P
          by_cases e : tn = 1
          · rw [fw_nbT e] at P
            exact br_t (by rw [r18, e]; rfl) P
          · rw [fw_nbF e] at P
            refine br_f (by rw [r18]; exact fun z => e ((nI_eq (b := 1) (by omega) (by omega)).mp z)) ?_
            rw [fw_x1 _ (by omega)]
            exact P
end
end
section
/-! engine 6: parents, branches, orphans -/
noncomputable def fw_par (TO E TR CB n : Nat) (k : Nat → Bool) : Bool :=
  (fun x => fw_if (Nat.beq x 0) false (fw_if (Nat.ble x E) (fw_if (Nat.beq (fw_g TR n) 1) (k (fw_g TO (Nat.xor (Nat.pred x) 1))) (k (fw_g TO (Nat.pred x)))) false)) (fw_g CB n)
noncomputable def fw_mo (n CB OR o : Nat) (k : Nat → Nat → Nat → Bool) : Bool := fw_if (Nat.ble o 62) (k (fw_s CB n 0) (fw_s OR o n) (Nat.succ o)) false
noncomputable def fw_ro (TO E TR CB s t : Nat) (k : Bool → Bool) (F : Nat) : Nat → Bool :=
  @Nat.rec (fun _ => Nat → Bool) (fun _ => false)
    (fun _ ih n => fw_if (Nat.beq n s) (k true) (fw_if (Nat.beq n t) (k true) (fw_if (Nat.beq (fw_g CB n) 0) (k false) (fw_par TO E TR CB n ih)))) F
noncomputable def fw_bm (TO E TR CB LF root : Nat) (k : Nat → Bool) (F : Nat) : Nat → Nat → Bool :=
  @Nat.rec (fun _ => Nat → Nat → Bool) (fun _ _ => false)
    (fun _ ih am n => fw_if (Nat.beq n root) (k am) (fw_if (Nat.beq (fw_g CB n) 0) false (fw_if (Nat.ble (fw_g CB n) E) ((fun l => fw_if (Nat.ble am l) (fw_par TO E TR CB n (fun m => ih am m)) (fw_par TO E TR CB n (fun m => ih l m))) (fw_g LF (Nat.pred (fw_g CB n)))) false))) F
noncomputable def fw_brn (TO E TR root am : Nat) (k : Nat → Nat → Nat → Nat → Bool) (F : Nat) : Nat → Nat → Nat → Nat → Nat → Bool :=
  @Nat.rec (fun _ => Nat → Nat → Nat → Nat → Nat → Bool) (fun _ _ _ _ _ => false)
    (fun _ ih n LF CB OR o => fw_if (Nat.beq n root) (k LF CB OR o) (fw_par TO E TR CB n (fun up => fw_mv LF (Nat.pred (fw_g CB n)) am (fun LF => fw_if (Nat.beq (fw_g LF (Nat.pred (fw_g CB n))) 0) (fw_mo n CB OR o (fun CB OR o => ih up LF CB OR o)) (ih up LF CB OR o))))) F
section
variable {pr so si ed fl qf qs oc : Int32} {a1 a2 a3 a4 a5 a6 a7 a8 a9 a10 a11 a12 a13 a14 a15 a16 a17 a18 a19 : Nat → Int32}
theorem fw_par_c {TO E TR CB n : Nat} {k : Nat → Bool} (hm : fw_par TO E TR CB n k = true) : fw_g CB n ≠ 0 ∧ fw_g CB n ≤ E := by
  obtain ⟨c1, hm⟩ := fw_ifN hm
  obtain ⟨c2, hm⟩ := fw_ifA hm
  exact ⟨fw_ne c1, fw_le c2⟩
theorem fw_par_w {post : Int32 → Prop} {adj : Nat → List (Nat × Nat)} {TO NX FS E TR CB n : Nat} {k : Nat → Bool} (hN : fw_Net adj TO NX FS E a4 a6 a7) (h18 : fw_A 16 a18 TR) (h10 : fw_O 16 a10 CB) (hn : n < 16) (hm : fw_par TO E TR CB n k = true)
    (hp : ∀ m, m < 16 → k m = true → post (nI m)) : wpX_parentOf post (pr, so, si, ed, fl, qf, qs, oc, a1, a2, a3, a4, a5, a6, a7, a8, a9, a10, a11, a12, a13, a14, a15, a16, a17, a18, a19) (nI n) := by
  obtain ⟨c1, hm⟩ := fw_ifN hm
  obtain ⟨c2, hm⟩ := fw_ifA hm
  have c1 := fw_ne c1
  have c2 := fw_le c2
  have hE := hN.1
  have iN : vp_in (nI n) 16 := fw_in hn
  have r10 : a10 (nI n).toNatClampNeg = nI (Nat.pred (fw_g CB n)) := fw_rd (by rw [h10 n hn, fw_oP c1]; rfl) (by omega)
  have he : Nat.pred (fw_g CB n) < E := by rw [Nat.pred_eq_sub_one]; omega
  obtain ⟨hx, hv, h4, _⟩ := hN.2.2.1 _ he
  obtain ⟨_, hvx, h4x, _⟩ := hN.2.2.1 _ hx
  have x1 : a10 (nI n).toNatClampNeg ^^^ 1 = nI (Nat.xor (Nat.pred (fw_g CB n)) 1) := by rw [r10, fw_x1 _ (by omega)]
  have r18 : a18 (nI n).toNatClampNeg = nI (fw_g TR n) := fw_rd (h18 n hn) (by omega)
  have gt := fw_g_lt TR n
  refine ⟨iN, ?_⟩
  rcases fw_ifE hm with ⟨c, hm⟩ | ⟨c, hm⟩
  · have c := fw_eq c
    refine br_t (by rw [r18, c]; rfl) ⟨iN, pk_in _ 56 (by omega) x1, ?_⟩
    rw [x1, fw_cl (by omega), h4x]
    exact hp _ hvx hm
  · have c := fw_ne c
    refine br_f (by rw [r18]; exact fun z => c ((nI_eq (b := 1) (by omega) (by omega)).mp z)) ⟨iN, pk_in _ 56 (by omega) r10, ?_⟩
    rw [r10, fw_cl (by omega), h4]
    exact hp _ hv hm
theorem fw_mo_w {post : St2 → Prop} {n CB OR o : Nat} {k : Nat → Nat → Nat → Bool} (hn : n < 16) (h10 : fw_O 16 a10 CB) (ho : oc = nI o) (h19 : fw_A o a19 OR) (hm : fw_mo n CB OR o k = true)
    (hp : ∀ (oc' : Int32) (a10' a19' : Nat → Int32) (CB' OR' o' : Nat), oc' = nI o' → fw_O 16 a10' CB' → fw_A o' a19' OR' → k CB' OR' o' = true → post (pr, so, si, ed, fl, qf, qs, oc', a1, a2, a3, a4, a5, a6, a7, a8, a9, a10', a11, a12, a13, a14, a15, a16, a17, a18, a19')) : wpX_makeOrphan post (pr, so, si, ed, fl, qf, qs, oc, a1, a2, a3, a4, a5, a6, a7, a8, a9, a10, a11, a12, a13, a14, a15, a16, a17, a18, a19) (nI n) := by
  subst ho
  obtain ⟨c, hm⟩ := fw_ifA hm
  have c := fw_le c
  refine ⟨fw_in hn, nm_r (fw_ud (y := fw_o 0) (by omega) rfl) ⟨fw_in (by omega), nm_r (fw_ud (y := nI n) (by omega) (fw_by n (by omega))) (nm_r (nI_1 o) (hp _ _ _ _ _ _ rfl (fw_Ou h10 n (by omega)) ?_ hm))⟩⟩
  intro j hj
  rw [fw_g_e OR o j (by omega)]
  by_cases e : j = o
  · rw [if_pos e, e, pk_us]
  · rw [if_neg e, pk_un e]
    exact h19 j (by omega)
theorem fw_ro_l {post : Int32 → Prop} {adj : Nat → List (Nat × Nat)} {TO NX FS E TR CB s t : Nat} {k : Bool → Bool} (hN : fw_Net adj TO NX FS E a4 a6 a7) (h18 : fw_A 16 a18 TR) (h10 : fw_O 16 a10 CB) (hs : s < 16) (ht : t < 16)
    (hp : ∀ b : Bool, k b = true → post (fw_bI b)) :
    ∀ (F n : Nat), n < 16 → fw_ro TO E TR CB s t k F n = true → wX_isRooted_2 post pr (nI s) (nI t) ed fl qf qs oc a1 a2 a3 a4 a5 a6 a7 a8 a9 a10 a11 a12 a13 a14 a15 a16 a17 a18 a19 F (nI n) := by
  intro F
  induction F with
  | zero =>
    intro n _ hm
    exact absurd hm (by intro z; cases z)
  | succ F ih =>
    intro n hn hm
    rcases fw_ifE hm with ⟨c, hm⟩ | ⟨c, hm⟩
    · have c := fw_eq c
      have e : nI n = nI s := by rw [c]
      exact br_t e (br_t e (hp true hm))
    have c := fw_ne c
    have ne : ¬ nI n = nI s := by rw [nI_eq (by omega) (by omega)]; exact c
    refine br_f ne ?_
    rcases fw_ifE hm with ⟨c1, hm⟩ | ⟨c1, hm⟩
    · have c1 := fw_eq c1
      have e : nI n = nI t := by rw [c1]
      exact br_t e (br_f ne (br_t e (hp true hm)))
    have c1 := fw_ne c1
    have ne1 : ¬ nI n = nI t := by rw [nI_eq (by omega) (by omega)]; exact c1
    have r10 : a10 (nI n).toNatClampNeg = fw_o (fw_g CB n) := fw_rd (h10 n hn) (by omega)
    have g1 := fw_g_lt CB n
    refine br_f ne1 ⟨fw_in hn, ?_⟩
    rcases fw_ifE hm with ⟨c2, hm⟩ | ⟨c2, hm⟩
    · have c2 := fw_eq c2
      exact br_t (by rw [r10, c2]; decide) (br_f ne (br_f ne1 (hp false hm)))
    · have c2 := fw_ne c2
      exact br_f (by rw [r10, fw_o_neg (by omega)]; exact c2) (fw_par_w hN h18 h10 hn hm (fun m hm0 hm => ih m hm0 hm))
end
section
variable {pr so si ed fl qf qs : Int32} {a1 a2 a3 a4 a6 a7 a8 a9 a11 a12 a13 a14 a15 a16 a17 a18 : Nat → Int32}
theorem fw_brn_l {post : St2 → Prop} {adj : Nat → List (Nat × Nat)} {TO NX FS E TR root am : Nat} {k : Nat → Nat → Nat → Nat → Bool} (hN : fw_Net adj TO NX FS E a4 a6 a7) (h18 : fw_A 16 a18 TR) (hr : root < 16)
    (hp : ∀ (oc' : Int32) (a5' a10' a19' : Nat → Int32) (LF' CB' OR' o' : Nat), fw_A E a5' LF' → oc' = nI o' → fw_O 16 a10' CB' → fw_A o' a19' OR' → k LF' CB' OR' o' = true → post (pr, so, si, ed, fl, qf, qs, oc', a1, a2, a3, a4, a5', a6, a7, a8, a9, a10', a11, a12, a13, a14, a15, a16, a17, a18, a19')) :
    ∀ (F n LF CB OR o : Nat) (oc : Int32) (a5 a10 a19 : Nat → Int32), n < 16 → fw_A E a5 LF → oc = nI o → fw_O 16 a10 CB → fw_A o a19 OR → fw_brn TO E TR root am k F n LF CB OR o = true →
      wX_fillBranch_3 post (nI root) (nI am) F (nI n) pr so si ed fl qf qs oc a1 a2 a3 a4 a5 a6 a7 a8 a9 a10 a11 a12 a13 a14 a15 a16 a17 a18 a19 := by
  intro F
  induction F with
  | zero =>
    intro n LF CB OR o oc a5 a10 a19 _ _ _ _ _ hm
    exact absurd hm (by intro z; cases z)
  | succ F ih =>
    intro n LF CB OR o oc a5 a10 a19 hn h5 ho h10 h19 hm
    rcases fw_ifE hm with ⟨c, hm⟩ | ⟨c, hm⟩
    · have c := fw_eq c
      exact br_t (by rw [c]) (hp _ _ _ _ _ _ _ _ h5 ho h10 h19 hm)
    have c := fw_ne c
    obtain ⟨c1, c2⟩ := fw_par_c hm
    have hE := hN.1
    have r10 : a10 (nI n).toNatClampNeg = nI (Nat.pred (fw_g CB n)) := fw_rd (by rw [h10 n hn, fw_oP c1]; rfl) (by omega)
    have he : Nat.pred (fw_g CB n) < E := by rw [Nat.pred_eq_sub_one]; omega
    obtain ⟨hx, _⟩ := hN.2.2.1 _ he
    refine br_f (by rw [nI_eq (by omega) (by omega)]; exact c) (fw_par_w hN h18 h10 hn hm (fun up hup hm => ⟨fw_in hn, fw_mv_w r10 rfl h5 hE he hx hm (fun a5' LF' h5' hm => ⟨fw_in hn, pk_in _ 56 (by omega) r10, ?_⟩)⟩))
    have r5 : a5' (a10 (nI n).toNatClampNeg).toNatClampNeg = nI (fw_g LF' (Nat.pred (fw_g CB n))) := by rw [r10]; exact fw_rd (h5' _ he) (by omega)
    have g1 := fw_g_lt LF' (Nat.pred (fw_g CB n))
    rcases fw_ifE hm with ⟨c3, hm⟩ | ⟨c3, hm⟩
    · have c3 := fw_eq c3
      exact br_t (by rw [r5, c3]; rfl) (fw_mo_w hn h10 ho h19 hm (fun oc' a10' a19' CB' OR' o' ho' h10' h19' hm => ih _ _ _ _ _ _ _ _ _ hup h5' ho' h10' h19' hm))
    · have c3 := fw_ne c3
      exact br_f (by rw [r5]; exact nI_ne0 (by omega) (by omega)) (ih _ _ _ _ _ _ _ _ _ hup h5' ho h10 h19 hm)
end
noncomputable def fw_fb (TO E s t TR CB LF br : Nat) (k : Nat → Nat → Nat → Nat → Nat → Bool) : Bool :=
  (fun a b => fw_bm TO E TR CB LF s (fun am => fw_bm TO E TR CB LF t (fun am => fw_mv LF br am (fun LF => fw_brn TO E TR s am (fun LF CB OR o => fw_brn TO E TR t am (fun LF CB OR o => k LF CB OR o am) 17 b LF CB OR o) 17 a LF CB 0 0)) 17 am b) 17 (fw_g LF br) a) (fw_g TO (Nat.xor br 1)) (fw_g TO br)
section
variable {pr so si ed fl qf qs oc : Int32} {a1 a2 a3 a4 a5 a6 a7 a8 a9 a10 a11 a12 a13 a14 a15 a16 a17 a18 a19 : Nat → Int32}
theorem fw_bm27_l {post : St2 → Prop} {x1 x3 x4 : Int32} {adj : Nat → List (Nat × Nat)} {TO NX FS E TR CB LF s : Nat} {k : Nat → Bool} (hN : fw_Net adj TO NX FS E a4 a6 a7) (h5 : fw_A E a5 LF) (h18 : fw_A 16 a18 TR) (h10 : fw_O 16 a10 CB) (hs : s < 16)
    (hp : ∀ am, am < 256 → k am = true → ∃ f, wX_fillBridge_84 post x1 x3 x4 pr (nI s) si ed fl qf qs oc a1 a2 a3 a4 a5 a6 a7 a8 a9 a10 a11 a12 a13 a14 a15 a16 a17 a18 a19 f (nI am) x4) :
    ∀ (F am n : Nat), am < 256 → n < 16 → fw_bm TO E TR CB LF s k F am n = true → wX_fillBridge_27 post x1 x3 x4 pr (nI s) si ed fl qf qs oc a1 a2 a3 a4 a5 a6 a7 a8 a9 a10 a11 a12 a13 a14 a15 a16 a17 a18 a19 F (nI am) (nI n) := by
  intro F
  induction F with
  | zero =>
    intro am n _ _ hm
    exact absurd hm (by intro z; cases z)
  | succ F ih =>
    intro am n ha hn hm
    rcases fw_ifE hm with ⟨c, hm⟩ | ⟨c, hm⟩
    · have c := fw_eq c
      exact br_t (by rw [c]) (hp am ha hm)
    have c := fw_ne c
    obtain ⟨c1, hm⟩ := fw_ifN hm
    obtain ⟨c2, hm⟩ := fw_ifA hm
    have c1 := fw_ne c1
    have c2 := fw_le c2
    have hE := hN.1
    have r10 : a10 (nI n).toNatClampNeg = nI (Nat.pred (fw_g CB n)) := fw_rd (by rw [h10 n hn, fw_oP c1]; rfl) (by omega)
    have he : Nat.pred (fw_g CB n) < E := by rw [Nat.pred_eq_sub_one]; omega
    have r5 : a5 (a10 (nI n).toNatClampNeg).toNatClampNeg = nI (fw_g LF (Nat.pred (fw_g CB n))) := by rw [r10]; exact fw_rd (h5 _ he) (by omega)
    have g1 := fw_g_lt LF (Nat.pred (fw_g CB n))
    have i1 : vp_in (nI n) 16 := fw_in hn
    have i2 : vp_in (a10 (nI n).toNatClampNeg) 56 := pk_in _ 56 (by omega) r10
    refine br_f (by rw [nI_eq (by omega) (by omega)]; exact c) ⟨i1, i2, ?_⟩
    rcases fw_ifE hm with ⟨c3, hm⟩ | ⟨c3, hm⟩
    · exact br_t (by rw [r5]; exact nI_le (fw_le c3) (by omega)) (fw_par_w hN h18 h10 hn hm (fun m hm0 hm => ih _ _ ha hm0 hm))
    · refine br_f (by rw [r5]; exact nI_ge (fw_gt c3) (by omega)) ⟨i1, i2, ?_⟩
      rw [r5]
      exact fw_par_w hN h18 h10 hn hm (fun m hm0 hm => ih _ _ g1 hm0 hm)
theorem fw_bm84_l {post : St2 → Prop} {x1 x3 x4 : Int32} {adj : Nat → List (Nat × Nat)} {TO NX FS E TR CB LF t : Nat} {k : Nat → Bool} (hN : fw_Net adj TO NX FS E a4 a6 a7) (h5 : fw_A E a5 LF) (h18 : fw_A 16 a18 TR) (h10 : fw_O 16 a10 CB) (ht : t < 16)
    (hp : ∀ am, am < 256 → k am = true → wX_fillBridge_84 post x1 x3 x4 pr so (nI t) ed fl qf qs oc a1 a2 a3 a4 a5 a6 a7 a8 a9 a10 a11 a12 a13 a14 a15 a16 a17 a18 a19 1 (nI am) (nI t)) :
    ∀ (F am n : Nat), am < 256 → n < 16 → fw_bm TO E TR CB LF t k F am n = true → wX_fillBridge_84 post x1 x3 x4 pr so (nI t) ed fl qf qs oc a1 a2 a3 a4 a5 a6 a7 a8 a9 a10 a11 a12 a13 a14 a15 a16 a17 a18 a19 F (nI am) (nI n) := by
  intro F
  induction F with
  | zero =>
    intro am n _ _ hm
    exact absurd hm (by intro z; cases z)
  | succ F ih =>
    intro am n ha hn hm
    rcases fw_ifE hm with ⟨c, hm⟩ | ⟨c, hm⟩
    · have c := fw_eq c
      have W := hp am ha hm
      exact br_t (by rw [c]) (W.1 rfl)
    have c := fw_ne c
    obtain ⟨c1, hm⟩ := fw_ifN hm
    obtain ⟨c2, hm⟩ := fw_ifA hm
    have c1 := fw_ne c1
    have c2 := fw_le c2
    have hE := hN.1
    have r10 : a10 (nI n).toNatClampNeg = nI (Nat.pred (fw_g CB n)) := fw_rd (by rw [h10 n hn, fw_oP c1]; rfl) (by omega)
    have he : Nat.pred (fw_g CB n) < E := by rw [Nat.pred_eq_sub_one]; omega
    have r5 : a5 (a10 (nI n).toNatClampNeg).toNatClampNeg = nI (fw_g LF (Nat.pred (fw_g CB n))) := by rw [r10]; exact fw_rd (h5 _ he) (by omega)
    have g1 := fw_g_lt LF (Nat.pred (fw_g CB n))
    have i1 : vp_in (nI n) 16 := fw_in hn
    have i2 : vp_in (a10 (nI n).toNatClampNeg) 56 := pk_in _ 56 (by omega) r10
    refine br_f (by rw [nI_eq (by omega) (by omega)]; exact c) ⟨i1, i2, ?_⟩
    rcases fw_ifE hm with ⟨c3, hm⟩ | ⟨c3, hm⟩
    · exact br_t (by rw [r5]; exact nI_le (fw_le c3) (by omega)) (fw_par_w hN h18 h10 hn hm (fun m hm0 hm => ih _ _ ha hm0 hm))
    · refine br_f (by rw [r5]; exact nI_ge (fw_gt c3) (by omega)) ⟨i1, i2, ?_⟩
      rw [r5]
      exact fw_par_w hN h18 h10 hn hm (fun m hm0 hm => ih _ _ g1 hm0 hm)
theorem fw_fb_w {post : St2 → Prop} {adj : Nat → List (Nat × Nat)} {TO NX FS E s t TR CB LF br : Nat} {k : Nat → Nat → Nat → Nat → Nat → Bool} (hN : fw_Net adj TO NX FS E a4 a6 a7) (hs : s < 16) (ht : t < 16) (h5 : fw_A E a5 LF) (h18 : fw_A 16 a18 TR) (h10 : fw_O 16 a10 CB) (ho : oc = 0) (hb : br < E)
    (hm : fw_fb TO E s t TR CB LF br k = true)
    (hp : ∀ (oc' : Int32) (a5' a10' a19' : Nat → Int32) (LF' CB' OR' o' am : Nat), fw_A E a5' LF' → oc' = nI o' → fw_O 16 a10' CB' → fw_A o' a19' OR' → k LF' CB' OR' o' am = true → post (pr, nI s, nI t, ed, fl + nI am, qf, qs, oc', a1, a2, a3, a4, a5', a6, a7, a8, a9, a10', a11, a12, a13, a14, a15, a16, a17, a18, a19')) :
    wpX_fillBridge post (pr, nI s, nI t, ed, fl, qf, qs, oc, a1, a2, a3, a4, a5, a6, a7, a8, a9, a10, a11, a12, a13, a14, a15, a16, a17, a18, a19) (nI br) := by
  have hE := hN.1
  obtain ⟨hx, hv, h4, _⟩ := hN.2.2.1 _ hb
  obtain ⟨_, hvx, h4x, _⟩ := hN.2.2.1 _ hx
  have x1 : nI br ^^^ 1 = nI (Nat.xor br 1) := fw_x1 _ (by omega)
  refine ⟨fw_in (by omega), nm_r (fw_rd (h5 _ hb) (by omega)) ⟨pk_in _ 56 (by omega) x1, nm_r (e' := nI (fw_g TO (Nat.xor br 1))) (by rw [x1]; exact fw_rd h4x (by omega)) ⟨fw_in (by omega), nm_r (fw_rd h4 (by omega)) ⟨17, ?_⟩⟩⟩⟩
  refine fw_bm27_l hN h5 h18 h10 hs (fun am ha hm => ⟨17, fw_bm84_l hN h5 h18 h10 ht (fun am ha hm => ?_) 17 am (fw_g TO br) ha hv hm⟩) 17 (fw_g LF br) (fw_g TO (Nat.xor br 1)) (fw_g_lt _ _) hvx hm
  refine br_t rfl (fw_mv_w rfl rfl h5 hE hb hx hm (fun a52 LF2 h52 hm => ⟨17, fw_brn_l hN h18 hs (fun oc3 a53 a103 a193 LF3 CB3 OR3 o3 h53 ho3 h103 h193 hm => ⟨17, fw_brn_l hN h18 ht (fun oc4 a54 a104 a194 LF4 CB4 OR4 o4 h54 ho4 h104 h194 hm => fun f ef => by subst ef; exact hp _ _ _ _ _ _ _ _ _ h54 ho4 h104 h194 hm) 17 _ _ _ _ _ _ _ _ _ hv h53 ho3 h103 h193 hm⟩) 17 _ _ _ 0 0 _ _ _ _ hvx h52 (show oc = nI 0 from ho) h10 (fun j hj => absurd hj (Nat.not_lt_zero j)) hm⟩))
end
end
section
/-! engine 6: adoption, the rounds -/
theorem fw_ybT {tn : Nat} (h : tn = 1) : Nat.beq tn 1 = true := by subst h; rfl
theorem fw_ybF {tn : Nat} (h : tn ≠ 1) : Nat.beq tn 1 = false := by
  cases e : Nat.beq tn 1 with
  | false => rfl
  | true => exact absurd (fw_eq e) h
noncomputable def fw_pn (bk : Bool) (TO E TR LF CB s t n tn : Nat) (kT : Nat → Bool) (kF : Bool) (L : List (Nat × Nat)) : Bool :=
  @List.rec (Nat × Nat) (fun _ => Bool) kF (fun p _ ih => fw_if (Nat.beq (fw_g TR p.2) tn) (fw_if (Nat.beq (fw_g LF (fw_al bk p.1)) 0) ih (fw_ro TO E TR CB s t (fun r => fw_if r (kT (fw_s CB n (Nat.succ (fw_al bk p.1)))) ih) 17 p.2)) ih) L
noncomputable def fw_st (TO E TR n v : Nat) (k : Nat → Nat → Nat → Nat → Nat → Nat → Bool) (CB OR o Q m M : Nat) : Bool :=
  fw_if (Nat.beq (fw_g CB v) 0) (k CB OR o Q m M) (fw_par TO E TR CB v (fun up => fw_if (Nat.beq up n) (fw_mo v CB OR o (fun CB OR o => k CB OR o Q m M)) (k CB OR o Q m M)))
noncomputable def fw_sr (bk : Bool) (TO E TR LF n tn : Nat) (k : Nat → Nat → Nat → Nat → Nat → Nat → Bool) (L : List (Nat × Nat)) : Nat → Nat → Nat → Nat → Nat → Nat → Bool :=
  @List.rec (Nat × Nat) (fun _ => Nat → Nat → Nat → Nat → Nat → Nat → Bool) k
    (fun p _ ih CB OR o Q m M => fw_if (Nat.beq (fw_g TR p.2) tn) (fw_if (Nat.beq (fw_g LF (fw_al bk p.1)) 0) (fw_st TO E TR n p.2 ih CB OR o Q m M) (fw_enq Q m M p.2 (fun Q m M => fw_st TO E TR n p.2 ih CB OR o Q m M))) (ih CB OR o Q m M)) L
section
variable {pr so si ed fl qf qs oc : Int32} {a1 a2 a3 a4 a5 a6 a7 a8 a9 a10 a11 a12 a13 a14 a15 a16 a17 a18 a19 : Nat → Int32}
theorem fw_pn_l {post : Int32 → St2 → Prop} {adj : Nat → List (Nat × Nat)} {TO NX FS E TR LF CB s t n tn : Nat} {kT : Nat → Bool} {kF : Bool} (hN : fw_Net adj TO NX FS E a4 a6 a7) (hs : s < 16) (ht : t < 16) (h5 : fw_A E a5 LF) (h18 : fw_A 16 a18 TR) (h10 : fw_O 16 a10 CB) (hn : n < 16) (htn : fw_g TR n = tn)
    (hT : ∀ (a10' : Nat → Int32) (CB' : Nat), fw_O 16 a10' CB' → kT CB' = true → post 1 (pr, nI s, nI t, ed, fl, qf, qs, oc, a1, a2, a3, a4, a5, a6, a7, a8, a9, a10', a11, a12, a13, a14, a15, a16, a17, a18, a19)) (hF : kF = true → post 0 (pr, nI s, nI t, ed, fl, qf, qs, oc, a1, a2, a3, a4, a5, a6, a7, a8, a9, a10, a11, a12, a13, a14, a15, a16, a17, a18, a19)) :
    ∀ (L : List (Nat × Nat)) (x : Int32), fw_Ch a4 a7 n E L x → fw_pn (Nat.beq tn 1) TO E TR LF CB s t n tn kT kF L = true → wX_findParent_7 post (nI n) pr (nI s) (nI t) ed fl qf qs oc a1 a2 a3 a4 a5 a6 a7 a8 a9 a10 a11 a12 a13 a14 a15 a16 a17 a18 a19 (L.length + 1) x := by
  intro L
  induction L with
  | nil =>
    intro x hc hm
    have hx : x = -1 := hc
    subst hx
    exact br_t (by decide) (hF hm)
  | cons p L ih =>
    intro x hc hm
    obtain ⟨hx, he, hx1, h4, hv, _, hc⟩ := hc
    subst hx
    have hE := hN.1
    have i1 : vp_in (nI p.1) 56 := fw_in (by omega)
    have iN : vp_in (nI n) 16 := fw_in hn
    have iv : vp_in (nI p.2) 16 := fw_in hv
    have r4 : a4 (nI p.1).toNatClampNeg = nI p.2 := fw_rd h4 (by omega)
    have r7 : a7 (nI p.1).toNatClampNeg = a7 p.1 := fw_rd rfl (by omega)
    have r18 : a18 (nI n).toNatClampNeg = nI tn := by rw [fw_cl (by omega), h18 n hn, htn]
    have r18v : a18 (nI p.2).toNatClampNeg = nI (fw_g TR p.2) := fw_rd (h18 _ hv) (by omega)
    have gv := fw_g_lt TR p.2
    have gn := fw_g_lt TR n
    have hal : fw_al (Nat.beq tn 1) p.1 < E := by
      by_cases e : tn = 1
      · rw [fw_ybT e]; exact hx1
      · rw [fw_ybF e]; exact he
    have J : ∀ z : Int32, z = nI (fw_al (Nat.beq tn 1) p.1) → wX_findParent_35 post (wX_findParent_7 post (nI n) pr (nI s) (nI t) ed fl qf qs oc a1 a2 a3 a4 a5 a6 a7 a8 a9 a10 a11 a12 a13 a14 a15 a16 a17 a18 a19 (L.length + 1)) (nI n) (nI p.1) (nI p.2) z pr (nI s) (nI t) ed fl qf qs oc a1 a2 a3 a4 a5 a6 a7 a8 a9 a10 a11 a12 a13 a14 a15 a16 a17 a18 a19 := by
      intro z ez
      subst ez
      have r5 : a5 (nI (fw_al (Nat.beq tn 1) p.1)).toNatClampNeg = nI (fw_g LF (fw_al (Nat.beq tn 1) p.1)) := fw_rd (h5 _ hal) (by omega)
      have gl := fw_g_lt LF (fw_al (Nat.beq tn 1) p.1)
      refine ⟨iv, iN, ?_⟩
      rcases fw_ifE hm with ⟨c, hm⟩ | ⟨c, hm⟩
      · have c := fw_eq c
        refine br_t (by rw [r18v, r18, c]) ⟨fw_in (by omega), ?_⟩
        rcases fw_ifE hm with ⟨c1, hm⟩ | ⟨c1, hm⟩
        · have c1 := fw_eq c1
          exact br_t (by rw [r5, c1]; decide) ⟨i1, nm_r r7 (ih _ hc hm)⟩
        · have c1 := fw_ne c1
          refine br_f (by rw [r5]; exact nI_nle (by omega) (by omega)) ⟨17, fw_ro_l hN h18 h10 hs ht (fun b hm => ?_) 17 p.2 hv hm⟩
          cases b with
          | true => exact br_f (by decide) ⟨iN, nm_r (fw_ud (y := fw_o (Nat.succ (fw_al (Nat.beq tn 1) p.1))) (by omega) (by rw [fw_by _ (by omega), fw_oS])) (hT _ _ (fw_Ou h10 n (by omega)) hm)⟩
          | false => exact br_t rfl ⟨i1, nm_r r7 (ih _ hc hm)⟩
      · have c := fw_ne c
        exact br_f (by rw [r18v, r18, nI_eq (by omega) (by omega)]; exact c) ⟨i1, nm_r r7 (ih _ hc hm)⟩
    refine br_f (nI_pos (by omega)) ⟨i1, nm_r r4 ⟨iN, ?_⟩⟩
    by_cases e : tn = 1
    · exact br_t (by rw [r18, e]; rfl) (J _ (by rw [fw_ybT e, fw_x1 _ (by omega)]; rfl))
    · exact br_f (by rw [r18]; exact fun z => e ((nI_eq (b := 1) (by omega) (by omega)).mp z)) (J _ (by rw [fw_ybF e]; rfl))
end
section
variable {pr so si ed fl qf : Int32} {a1 a2 a3 a4 a5 a6 a7 a8 a9 a11 a12 a15 a16 a17 a18 : Nat → Int32}
theorem fw_sr_l {post : St2 → Prop} {adj : Nat → List (Nat × Nat)} {TO NX FS E TR LF n tn : Nat} {k : Nat → Nat → Nat → Nat → Nat → Nat → Bool} (hN : fw_Net adj TO NX FS E a4 a6 a7) (h5 : fw_A E a5 LF) (h18 : fw_A 16 a18 TR) (hn : n < 16) (htn : fw_g TR n = tn)
    (hp : ∀ (oc' qs' : Int32) (a10' a13' a14' a18' a19' : Nat → Int32) (CB' OR' o' Q' m' M' : Nat), fw_A 16 a18' (fw_s TR n 0) → oc' = nI o' → fw_O 16 a10' CB' → fw_A o' a19' OR' → fw_Q qf qs' a13' a14' Q' m' M' → k CB' OR' o' Q' m' M' = true → post (pr, so, si, ed, fl, qf, qs', oc', a1, a2, a3, a4, a5, a6, a7, a8, a9, a10', a11, a12, a13', a14', a15, a16, a17, a18', a19')) :
    ∀ (L : List (Nat × Nat)) (x : Int32) (CB OR o Q m M : Nat) (oc qs : Int32) (a10 a13 a14 a19 : Nat → Int32), fw_Ch a4 a7 n E L x → oc = nI o → fw_O 16 a10 CB → fw_A o a19 OR → fw_Q qf qs a13 a14 Q m M → fw_sr (Nat.beq tn 1) TO E TR LF n tn k L CB OR o Q m M = true →
      wX_setFree_7 post (nI n) (L.length + 1) x pr so si ed fl qf qs oc a1 a2 a3 a4 a5 a6 a7 a8 a9 a10 a11 a12 a13 a14 a15 a16 a17 a18 a19 := by
  intro L
  induction L with
  | nil =>
    intro x CB OR o Q m M oc qs a10 a13 a14 a19 hc ho h10 h19 hq hm
    have hx : x = -1 := hc
    subst hx
    exact br_t (by decide) ⟨fw_in hn, nm_r (fw_ud (y := nI 0) (by omega) rfl) (hp _ _ _ _ _ _ _ _ _ _ _ _ _ (fw_Au h18 n (by omega)) ho h10 h19 hq hm)⟩
  | cons p L ih =>
    intro x CB OR o Q m M oc qs a10 a13 a14 a19 hc ho h10 h19 hq hm
    obtain ⟨hx, he, hx1, h4, hv, _, hc⟩ := hc
    subst hx
    have hE := hN.1
    have i1 : vp_in (nI p.1) 56 := fw_in (by omega)
    have iN : vp_in (nI n) 16 := fw_in hn
    have iv : vp_in (nI p.2) 16 := fw_in hv
    have r4 : a4 (nI p.1).toNatClampNeg = nI p.2 := fw_rd h4 (by omega)
    have r7 : a7 (nI p.1).toNatClampNeg = a7 p.1 := fw_rd rfl (by omega)
    have r18 : a18 (nI n).toNatClampNeg = nI tn := by rw [fw_cl (by omega), h18 n hn, htn]
    have r18v : a18 (nI p.2).toNatClampNeg = nI (fw_g TR p.2) := fw_rd (h18 _ hv) (by omega)
    have gv := fw_g_lt TR p.2
    have gn := fw_g_lt TR n
    have hal : fw_al (Nat.beq tn 1) p.1 < E := by
      by_cases e : tn = 1
      · rw [fw_ybT e]; exact hx1
      · rw [fw_ybF e]; exact he
    have rest : ∀ (qs : Int32) (a13 a14 : Nat → Int32) (Q m M : Nat), fw_Q qf qs a13 a14 Q m M → fw_st TO E TR n p.2 (fw_sr (Nat.beq tn 1) TO E TR LF n tn k L) CB OR o Q m M = true → wX_setFree_67 post (wX_setFree_7 post (nI n) (L.length + 1)) (nI n) (nI p.1) (nI p.2) pr so si ed fl qf qs oc a1 a2 a3 a4 a5 a6 a7 a8 a9 a10 a11 a12 a13 a14 a15 a16 a17 a18 a19 := by
      intro qs a13 a14 Q m M hq hm
      have r10 : a10 (nI p.2).toNatClampNeg = fw_o (fw_g CB p.2) := fw_rd (h10 _ hv) (by omega)
      have gc := fw_g_lt CB p.2
      refine ⟨iv, ?_⟩
      rcases fw_ifE hm with ⟨c, hm⟩ | ⟨c, hm⟩
      · have c := fw_eq c
        exact br_t (by rw [r10, c]; decide) ⟨i1, nm_r r7 (ih _ _ _ _ _ _ _ _ _ _ _ _ _ hc ho h10 h19 hq hm)⟩
      · have c := fw_ne c
        refine br_f (by rw [r10, fw_o_neg (by omega)]; exact c) (fw_par_w hN h18 h10 hv hm (fun up hup hm => ?_))
        rcases fw_ifE hm with ⟨c1, hm⟩ | ⟨c1, hm⟩
        · have c1 := fw_eq c1
          exact br_t (by rw [c1]) (fw_mo_w hv h10 ho h19 hm (fun oc' a10' a19' CB' OR' o' ho' h10' h19' hm => ⟨i1, nm_r r7 (ih _ _ _ _ _ _ _ _ _ _ _ _ _ hc ho' h10' h19' hq hm)⟩))
        · have c1 := fw_ne c1
          exact br_f (by rw [nI_eq (by omega) (by omega)]; exact c1) ⟨i1, nm_r r7 (ih _ _ _ _ _ _ _ _ _ _ _ _ _ hc ho h10 h19 hq hm)⟩
    refine br_f (nI_pos (by omega)) ⟨i1, nm_r r4 ⟨iv, iN, ?_⟩⟩
    rcases fw_ifE hm with ⟨c, hm⟩ | ⟨c, hm⟩
    · have c := fw_eq c
      refine br_t (by rw [r18v, r18, c]) ⟨iN, ?_⟩
      have J : ∀ z : Int32, z = nI (fw_al (Nat.beq tn 1) p.1) → wX_setFree_50 post (wX_setFree_7 post (nI n) (L.length + 1)) (nI n) (nI p.1) (nI p.2) z pr so si ed fl qf qs oc a1 a2 a3 a4 a5 a6 a7 a8 a9 a10 a11 a12 a13 a14 a15 a16 a17 a18 a19 := by
        intro z ez
        subst ez
        have r5 : a5 (nI (fw_al (Nat.beq tn 1) p.1)).toNatClampNeg = nI (fw_g LF (fw_al (Nat.beq tn 1) p.1)) := fw_rd (h5 _ hal) (by omega)
        have gl := fw_g_lt LF (fw_al (Nat.beq tn 1) p.1)
        refine ⟨fw_in (by omega), ?_⟩
        rcases fw_ifE hm with ⟨c1, hm⟩ | ⟨c1, hm⟩
        · have c1 := fw_eq c1
          exact br_t (by rw [r5, c1]; decide) (rest _ _ _ _ _ _ hq hm)
        · have c1 := fw_ne c1
          exact br_f (by rw [r5]; exact nI_nle (by omega) (by omega)) (fw_enq_w hq hv hm (fun qs' a13' a14' Q' m' M' hq' hm => rest _ _ _ _ _ _ hq' hm))
      by_cases e : tn = 1
      · exact br_t (by rw [r18, e]; rfl) (J _ (by rw [fw_ybT e, fw_x1 _ (by omega)]; rfl))
      · exact br_f (by rw [r18]; exact fun z => e ((nI_eq (b := 1) (by omega) (by omega)).mp z)) (J _ (by rw [fw_ybF e]; rfl))
    · have c := fw_ne c
      exact br_f (by rw [r18v, r18, nI_eq (by omega) (by omega)]; exact c) ⟨i1, nm_r r7 (ih _ _ _ _ _ _ _ _ _ _ _ _ _ hc ho h10 h19 hq hm)⟩
end
noncomputable def fw_ad (adj : Nat → List (Nat × Nat)) (TO E s t LF : Nat) (k : Nat → Nat → Nat → Nat → Nat → Bool) (F : Nat) : Nat → Nat → Nat → Nat → Nat → Nat → Nat → Bool :=
  @Nat.rec (fun _ => Nat → Nat → Nat → Nat → Nat → Nat → Nat → Bool) (fun _ _ _ _ _ _ _ => false)
    (fun _ ih TR CB OR o Q m M => fw_if (Nat.beq o 0) (k TR CB Q m M) (fw_if (Nat.ble o 64) ((fun n => fw_if (Nat.ble n 15) ((fun tn => fw_pn (Nat.beq tn 1) TO E TR LF CB s t n tn (fun CB => ih TR CB OR (Nat.pred o) Q m M)
      (fw_sr (Nat.beq tn 1) TO E TR LF n tn (fun CB OR o Q m M => ih (fw_s TR n 0) CB OR o Q m M) (adj n) CB OR (Nat.pred o) Q m M) (adj n)) (fw_g TR n)) false) (fw_g OR (Nat.pred o))) false)) F
section
variable {pr so si ed fl qf : Int32} {a1 a2 a3 a4 a5 a6 a7 a8 a9 a11 a12 a15 a16 a17 : Nat → Int32}
theorem fw_ad_l {post : St2 → Prop} {adj : Nat → List (Nat × Nat)} {TO NX FS E LF s t : Nat} {k : Nat → Nat → Nat → Nat → Nat → Bool} (hN : fw_Net adj TO NX FS E a4 a6 a7) (hs : s < 16) (ht : t < 16) (h5 : fw_A E a5 LF)
    (hp : ∀ (oc' qs' : Int32) (a10' a13' a14' a18' a19' : Nat → Int32) (TR' CB' Q' m' M' : Nat), oc' = 0 → fw_A 16 a18' TR' → fw_O 16 a10' CB' → fw_Q qf qs' a13' a14' Q' m' M' → k TR' CB' Q' m' M' = true → post (pr, nI s, nI t, ed, fl, qf, qs', oc', a1, a2, a3, a4, a5, a6, a7, a8, a9, a10', a11, a12, a13', a14', a15, a16, a17, a18', a19')) :
    ∀ (F TR CB OR o Q m M : Nat) (oc qs : Int32) (a10 a13 a14 a18 a19 : Nat → Int32), fw_A 16 a18 TR → oc = nI o → fw_O 16 a10 CB → fw_A o a19 OR → fw_Q qf qs a13 a14 Q m M → fw_ad adj TO E s t LF k F TR CB OR o Q m M = true →
      wX_adopt_0 post F pr (nI s) (nI t) ed fl qf qs oc a1 a2 a3 a4 a5 a6 a7 a8 a9 a10 a11 a12 a13 a14 a15 a16 a17 a18 a19 := by
  intro F
  induction F with
  | zero =>
    intro TR CB OR o Q m M oc qs a10 a13 a14 a18 a19 _ _ _ _ _ hm
    exact absurd hm (by intro z; cases z)
  | succ F ih =>
    intro TR CB OR o Q m M oc qs a10 a13 a14 a18 a19 h18 ho h10 h19 hq hm
    rcases fw_ifE hm with ⟨c, hm⟩ | ⟨c, hm⟩
    · have c := fw_eq c
      have ho' : oc = 0 := by rw [ho, c]; rfl
      exact br_t (by rw [ho']; decide) (hp _ _ _ _ _ _ _ _ _ _ _ _ ho' h18 h10 hq hm)
    have c := fw_ne c
    obtain ⟨c1, hm⟩ := fw_ifA hm
    obtain ⟨c2, hm⟩ := fw_ifA hm
    have c1 := fw_le c1
    have c2 := fw_le c2
    have ep : Nat.pred o = o - 1 := Nat.pred_eq_sub_one
    have e1 : oc - 1 = nI (Nat.pred o) := by
      obtain ⟨q, rfl⟩ : ∃ q, o = q + 1 := ⟨o - 1, by omega⟩
      rw [ho]
      exact nI_pred q
    have h19' : fw_A (Nat.pred o) a19 OR := fun j hj => h19 j (by omega)
    have hn : fw_g OR (Nat.pred o) < 16 := by omega
    refine br_f (by rw [ho]; exact nI_nle (by omega) (by omega)) (nm_r e1 ⟨fw_in (by omega), nm_r (fw_rd (h19 _ (by omega)) (by omega)) ⟨fw_in hn, nm_r (fw_rd rfl (by omega)) ⟨_, fw_pn_l hN hs ht h5 h18 h10 hn rfl (fun a10' CB' h10' hm => ?_) (fun hm => ?_) (adj _) _ (hN.2.1 _ hn) hm⟩⟩⟩)
    · exact br_f (by decide) (ih _ _ _ _ _ _ _ _ _ _ _ _ _ _ h18 rfl h10' h19' hq hm)
    · exact br_t rfl ⟨fw_in hn, nm_r (fw_rd rfl (by omega)) ⟨_, fw_sr_l hN h5 h18 hn rfl (fun oc' qs' a10' a13' a14' a18' a19' CB' OR' o' Q' m' M' h18' ho' h10' h19' hq' hm => ih _ _ _ _ _ _ _ _ _ _ _ _ _ _ h18' ho' h10' h19' hq' hm) (adj _) _ _ _ _ _ _ _ _ _ _ _ _ _ (hN.2.1 _ hn) rfl h10 h19' hq hm⟩⟩
end
noncomputable def fw_r6 (adj : Nat → List (Nat × Nat)) (TO E s t : Nat) (k : Nat → Nat → Bool) (F : Nat) : Nat → Nat → Nat → Nat → Nat → Nat → Nat → Bool :=
  @Nat.rec (fun _ => Nat → Nat → Nat → Nat → Nat → Nat → Nat → Bool) (fun _ _ _ _ _ _ _ => false)
    (fun _ ih LF fl TR CB Q m M => fw_if (Nat.beq m 0) (k LF fl) ((fun n => fw_if (Nat.ble n 15) ((fun tn => fw_if (Nat.beq tn 0) (fw_deq Q m M (fun _ Q m M => ih LF fl TR CB Q m M))
      (fw_if (Nat.ble tn 127) (fw_gr (fw_nb tn) LF tn (fun br TR CB Q m M => fw_if (Nat.beq br 0) (fw_if (Nat.beq m 0) false (fw_deq Q m M (fun _ Q m M => ih LF fl TR CB Q m M)))
        (fw_fb TO E s t TR CB LF (Nat.pred br) (fun LF CB OR o am => fw_ad adj TO E s t LF (fun TR CB Q m M => ih LF (Nat.add fl am) TR CB Q m M) 200 TR CB OR o Q m M))) (adj n) TR CB Q m M) false)) (fw_g TR n)) false) (Nat.land Q 255))) F
noncomputable def fw_e6 (adj : Nat → List (Nat × Nat)) (TO E s t F LF : Nat) (k : Nat → Nat → Bool) : Bool :=
  fw_enq 0 0 0 s (fun Q m M => fw_enq Q m M t (fun Q m M => fw_r6 adj TO E s t k F LF 0 (fw_s (fw_s 0 t 2) s 1) 0 Q m M))
section
variable {pr so si ed : Int32} {a1 a2 a3 a4 a6 a7 a8 a9 a11 a12 a15 a16 a17 : Nat → Int32}
theorem fw_r6_l {post : St2 → Prop} {adj : Nat → List (Nat × Nat)} {TO NX FS E s t : Nat} {k : Nat → Nat → Bool} (hN : fw_Net adj TO NX FS E a4 a6 a7) (hs : s < 16) (ht : t < 16)
    (hp : ∀ (fl' qf' qs' oc' : Int32) (a5' a10' a13' a14' a18' a19' : Nat → Int32) (LF' n' : Nat), fw_A E a5' LF' → fl' = nI n' → k LF' n' = true → post (pr, nI s, nI t, ed, fl', qf', qs', oc', a1, a2, a3, a4, a5', a6, a7, a8, a9, a10', a11, a12, a13', a14', a15, a16, a17, a18', a19')) :
    ∀ (F r LF n TR CB Q m M : Nat) (fl qf qs oc : Int32) (a5 a10 a13 a14 a18 a19 : Nat → Int32), r + F ≤ 100000 → fw_A E a5 LF → fl = nI n → oc = 0 → fw_A 16 a18 TR → fw_O 16 a10 CB → fw_Q qf qs a13 a14 Q m M → fw_r6 adj TO E s t k F LF n TR CB Q m M = true →
      wX_solveByTwoTrees_80 post F (nI r) pr (nI s) (nI t) ed fl qf qs oc a1 a2 a3 a4 a5 a6 a7 a8 a9 a10 a11 a12 a13 a14 a15 a16 a17 a18 a19 := by
  intro F
  induction F with
  | zero =>
    intro r LF n TR CB Q m M fl qf qs oc a5 a10 a13 a14 a18 a19 _ _ _ _ _ _ _ hm
    exact absurd hm (by intro z; cases z)
  | succ F ih =>
    intro r LF n TR CB Q m M fl qf qs oc a5 a10 a13 a14 a18 a19 hr h5 hf ho h18 h10 hq hm
    have hq' := hq
    obtain ⟨f, hf0, hqf, hqs, hmb, h13, _⟩ := hq'
    refine br_f (nI_ge (b := 100000) (by omega) (by decide)) ?_
    rcases fw_ifE hm with ⟨c, hm⟩ | ⟨c, hm⟩
    · have c := fw_eq c
      exact br_t (by rw [hqs, c]; decide) (hp _ _ _ _ _ _ _ _ _ _ _ _ h5 hf hm)
    have c := fw_ne c
    obtain ⟨c1, hm⟩ := fw_ifA hm
    have c1 := fw_le c1
    have e13 : a13 qf.toNatClampNeg = nI (Nat.land Q 255) := by
      rw [hqf]
      refine fw_rd ?_ (by omega)
      have := h13 0 (by omega)
      rw [Nat.add_zero, Nat.mod_eq_of_lt hf0, fw_g_h] at this
      exact this
    have hn : Nat.land Q 255 < 16 := by omega
    have r18 : a18 (nI (Nat.land Q 255)).toNatClampNeg = nI (fw_g TR (Nat.land Q 255)) := fw_rd (h18 _ hn) (by omega)
    have g1 := fw_g_lt TR (Nat.land Q 255)
    refine br_f (by rw [hqs]; exact nI_nle (by omega) (by omega)) ⟨pk_in f 64 hf0 hqf, nm_r e13 ⟨fw_in hn, ?_⟩⟩
    have deq : ∀ (TR CB Q m M : Nat) (qs : Int32) (a10 a13 a14 a18 : Nat → Int32) (z : Int32), z < 0 → m ≠ 0 → fw_A 16 a18 TR → fw_O 16 a10 CB → fw_Q qf qs a13 a14 Q m M → fw_deq Q m M (fun _ Q m M => fw_r6 adj TO E s t k F LF n TR CB Q m M) = true → wX_solveByTwoTrees_121 post (wX_solveByTwoTrees_80 post F) (nI r) z pr (nI s) (nI t) ed fl qf qs oc a1 a2 a3 a4 a5 a6 a7 a8 a9 a10 a11 a12 a13 a14 a15 a16 a17 a18 a19 := by
      intro TR CB Q m M qs a10 a13 a14 a18 z hz h0 h18 h10 hq hm
      exact br_t hz (fw_deq_w hq h0 hm (fun qf' qs' a14' u Q' m' M' hu hq' hm => nm_r (nI_1 r) (ih _ _ _ _ _ _ _ _ _ _ _ _ _ _ _ _ _ _ (by omega) h5 hf ho h18 h10 hq' hm)))
    rcases fw_ifE hm with ⟨c2, hm⟩ | ⟨c2, hm⟩
    · have c2 := fw_eq c2
      exact br_t (by rw [r18, c2]; rfl) (deq _ _ _ _ _ _ _ _ _ _ _ (by decide) c h18 h10 hq hm)
    have c2 := fw_ne c2
    obtain ⟨c3, hm⟩ := fw_ifA hm
    have c3 := fw_le c3
    refine br_f (by rw [r18]; exact nI_ne0 (by omega) (by omega)) ⟨fw_in hn, nm_r (fw_rd rfl (by omega)) ⟨_, fw_gr_l hN.1 h5 hn c2 (by omega) (fun qs2 a102 a132 a142 a182 br TR2 CB2 Q2 m2 M2 hbr h182 h102 hq2 hm => ?_) (adj _) _ _ _ _ _ _ _ _ _ _ _ (hN.2.1 _ hn) h18 rfl h10 hq hm⟩⟩
    have hE := hN.1
    rcases fw_ifE hm with ⟨c4, hm⟩ | ⟨c4, hm⟩
    · have c4 := fw_eq c4
      obtain ⟨c5, hm⟩ := fw_ifN hm
      exact deq _ _ _ _ _ _ _ _ _ _ _ (by rw [c4]; decide) (fw_ne c5) h182 h102 hq2 hm
    have c4 := fw_ne c4
    have rb : fw_o br = nI (Nat.pred br) := by rw [fw_oP c4]; rfl
    have hb : Nat.pred br < E := by rw [Nat.pred_eq_sub_one]; omega
    rw [rb]
    refine br_f (nI_pos (by omega)) (fw_fb_w hN hs ht h5 h182 h102 ho hb hm (fun oc3 a53 a103 a193 LF3 CB3 OR3 o3 am h53 ho3 h103 h193 hm => ⟨200, fw_ad_l hN hs ht h53 (fun oc4 qs4 a104 a134 a144 a184 a194 TR4 CB4 Q4 m4 M4 ho4 h184 h104 hq4 hm => nm_r (nI_1 r) (ih _ _ _ _ _ _ _ _ _ _ _ _ _ _ _ _ _ _ (by omega) h53 ?_ ho4 h184 h104 hq4 hm)) 200 _ _ _ _ _ _ _ _ _ _ _ _ _ _ h182 ho3 h103 h193 hq2 hm⟩))
    rw [hf]
    exact nI_add n am
end
section
variable {pr so si ed qf qs oc : Int32} {a1 a2 a3 a4 a5 a6 a7 a8 a9 a10 a11 a12 a13 a14 a15 a16 a17 a18 a19 : Nat → Int32}
theorem fw_e6_w {post : St2 → Prop} {adj : Nat → List (Nat × Nat)} {TO NX FS E s t F LF : Nat} {k : Nat → Nat → Bool} (hN : fw_Net adj TO NX FS E a4 a6 a7) (hs : s < 16) (ht : t < 16) (hst : t ≠ s) (hF : F ≤ 100000) (h5 : fw_A E a5 LF)
    (hm : fw_e6 adj TO E s t F LF k = true)
    (hp : ∀ (fl' qf' qs' oc' : Int32) (a5' a10' a13' a14' a18' a19' : Nat → Int32) (LF' n' : Nat), fw_A E a5' LF' → fl' = nI n' → k LF' n' = true → post (pr, nI s, nI t, ed, fl', qf', qs', oc', a1, a2, a3, a4, a5', a6, a7, a8, a9, a10', a11, a12, a13', a14', a15, a16, a17, a18', a19')) :
    wpX_solveByTwoTrees post (pr, nI s, nI t, ed, 0, qf, qs, oc, a1, a2, a3, a4, a5, a6, a7, a8, a9, a10, a11, a12, a13, a14, a15, a16, a17, a18, a19) := by
  unfold wpX_solveByTwoTrees
  refine fw_clr_w (fun qf' qs' a14' hq => ?_)
  refine pk_loop (fun f i a => wX_solveByTwoTrees_6 post pr (nI s) (nI t) ed 0 qf' qs' oc f (nI i) a1 a2 a3 a4 a5 a6 a7 a8 a9 (a.1) a11 a12 a13 a14' a15 a16 a17 (a.2) a19)
    (fun i a => (∀ j, j < i → a.1 j = fw_o 0) ∧ (∀ j, j < i → a.2 j = nI (if j = s then 1 else if j = t then 2 else 0))) 16 0 (a10, a18) (by omega) ⟨fun j hj => absurd hj (by omega), fun j hj => absurd hj (by omega)⟩ ?_ ?_
  · intro f a ha
    obtain ⟨h10, h18⟩ := ha
    have h18' : fw_A 16 a.2 (fw_s (fw_s 0 t 2) s 1) := by
      intro j hj
      rw [h18 j hj, fw_g_e _ _ _ (by omega), fw_g_e _ _ _ (by omega), fw_g_0]
    have h10' : fw_O 16 a.1 0 := fun j hj => by rw [h10 j hj, fw_g_0]
    exact pk_le 16 16 (fun _ => fw_enq_w hq hs hm (fun qs2 a132 a142 Q2 m2 M2 hq2 hm => fw_enq_w hq2 ht hm (fun qs3 a133 a143 Q3 m3 M3 hq3 hm => ⟨F, fw_r6_l hN hs ht hp F 0 LF 0 _ _ _ _ _ _ _ _ _ _ _ _ _ _ _ (by omega) h5 rfl rfl h18' h10' hq3 hm⟩))) (fun z => absurd z (by omega))
  · intro f i a hi ha hw
    obtain ⟨h10, h18⟩ := ha
    have ii : vp_in (nI i) 16 := fw_in hi
    refine pk_le 16 i (fun z => absurd z (by omega)) (fun _ => ?_)
    have put : ∀ (v : Nat) (z : Int32), v < 128 → z = nI v → v = (if i = s then 1 else if i = t then 2 else 0) → wX_solveByTwoTrees_42 post (wX_solveByTwoTrees_6 post pr (nI s) (nI t) ed 0 qf' qs' oc f) (nI i) z (nI i) pr (nI s) (nI t) ed 0 qf' qs' oc a1 a2 a3 a4 a5 a6 a7 a8 a9 (a.1) a11 a12 a13 a14' a15 a16 a17 (a.2) a19 := by
      intro v z hv ez ev
      subst ez
      refine ⟨ii, nm_r (fw_ud (y := nI v) (by omega) (fw_by v hv)) ⟨ii, nm_r (fw_ud (y := fw_o 0) (by omega) rfl) (nm_r (nI_1 i) (hw (upd a.1 i (fw_o 0), upd a.2 i (nI v)) ⟨?_, ?_⟩))⟩⟩
      · intro j hj
        show upd a.1 i (fw_o 0) j = _
        by_cases e : j = i
        · rw [e, pk_us]
        · rw [pk_un e]
          exact h10 j (by omega)
      · intro j hj
        show upd a.2 i (nI v) j = _
        by_cases e : j = i
        · rw [e, pk_us, ev]
        · rw [pk_un e]
          exact h18 j (by omega)
    by_cases e1 : i = s
    · exact br_t (by rw [e1]) (put 1 1 (by omega) rfl (by rw [if_pos e1]))
    · refine br_f (by rw [nI_eq (by omega) (by omega)]; exact e1) ?_
      by_cases e2 : i = t
      · exact br_t (by rw [e2]) (put 2 2 (by omega) rfl (by rw [if_neg e1, if_pos e2]))
      · exact br_f (by rw [nI_eq (by omega) (by omega)]; exact e2) (put 0 0 (by omega) rfl (by rw [if_neg e1, if_neg e2]))
end
end
section
/-! bits of a mask; the nets laid out -/
theorem fw_sl : ∀ n, n < 32 → ((nI n &&& 31).toBitVec.smod 32).toNat = n := by decide +kernel
theorem fw_or (a b : Nat) : nI a ||| nI b = nI (Nat.lor a b) := by
  apply Int32.toBitVec_inj.1
  show BitVec.ofNat 32 a ||| BitVec.ofNat 32 b = BitVec.ofNat 32 (a ||| b)
  apply BitVec.eq_of_getLsbD_eq
  intro i hi
  simp [hi]
theorem fw_sb {S k : Nat} (hS : S < 2 ^ 31) (hk : k < 32) : (nI S >>> (nI k &&& 31)) &&& 1 = nI (fw_b S k) := by
  rw [pk_shrN hS _ k (fw_sl k hk), pk_andN (Nat.lt_of_le_of_lt (Nat.div_le_self _ _) (by omega)) 1 (by decide)]
  show _ = nI ((S >>> k) &&& 1)
  rw [Nat.and_one_is_mod, Nat.shiftRight_eq_div_pow]
theorem fw_s1 {k : Nat} (hk : k < 31) : (1 : Int32) <<< (nI k &&& 31) = nI (Nat.shiftLeft 1 k) := by
  have h : 2 ^ k < 2 ^ 31 := Nat.pow_lt_pow_right (by decide) hk
  have := pk_shlN (n := 1) (nI k &&& 31) k (fw_sl k (by omega)) (by omega)
  show nI 1 <<< (nI k &&& 31) = nI (1 <<< k)
  rw [this, Nat.shiftLeft_eq]
/-- the arcs: which there are, and where they go -/
def fw_Arcs (PR FR TT RM : Nat) (pr : Int32) (a1 a2 a3 : Nat → Int32) : Prop :=
  PR < 2 ^ 20 ∧ pr = nI PR ∧ ∀ k, k < 20 → fw_b PR k ≠ 0 → fw_g FR k < 8 ∧ a1 k = nI (fw_g FR k) ∧ fw_g TT k < 8 ∧ a2 k = nI (fw_g TT k) ∧ a3 k = nI (fw_g RM k)
def fw_L (TO NX FS LF E : Nat) (a4 a5 a6 a7 : Nat → Int32) : Prop := fw_A E a4 TO ∧ fw_A E a5 LF ∧ fw_O 16 a6 FS ∧ fw_O E a7 NX ∧ (∀ n, n < 16 → fw_g FS n ≤ E)
noncomputable def fw_ae (a b c TO NX FS LF E : Nat) (k : Nat → Nat → Nat → Nat → Nat → Bool) : Bool :=
  fw_if (Nat.ble E 54) ((fun FS1 => k (fw_s (fw_s TO E b) (Nat.succ E) a) (fw_s (fw_s NX E (fw_g FS a)) (Nat.succ E) (fw_g FS1 b)) (fw_s FS1 b (Nat.succ (Nat.succ E))) (fw_s (fw_s LF E c) (Nat.succ E) 0) (Nat.succ (Nat.succ E))) (fw_s FS a (Nat.succ E))) false
theorem fw_A2 {n : Nat} {a : Nat → Int32} {A : Nat} (h : fw_A n a A) {v w : Nat} (hv : v < 256) (hw : w < 256) : fw_A (Nat.succ (Nat.succ n)) (upd (upd a n (nI v)) (Nat.succ n) (nI w)) (fw_s (fw_s A n v) (Nat.succ n) w) := by
  intro j hj
  rw [fw_g_e _ _ _ hw, fw_g_e _ _ _ hv]
  by_cases e : j = Nat.succ n
  · rw [if_pos e, e, pk_us]
  · rw [if_neg e, pk_un e]
    by_cases e2 : j = n
    · rw [if_pos e2, e2, pk_us]
    · rw [if_neg e2, pk_un e2]
      exact h j (by omega)
theorem fw_O2 {n : Nat} {a : Nat → Int32} {A : Nat} (h : fw_O n a A) {v w : Nat} (hv : v < 256) (hw : w < 256) : fw_O (Nat.succ (Nat.succ n)) (upd (upd a n (fw_o v)) (Nat.succ n) (fw_o w)) (fw_s (fw_s A n v) (Nat.succ n) w) := by
  intro j hj
  rw [fw_g_e _ _ _ hw, fw_g_e _ _ _ hv]
  by_cases e : j = Nat.succ n
  · rw [if_pos e, e, pk_us]
  · rw [if_neg e, pk_un e]
    by_cases e2 : j = n
    · rw [if_pos e2, e2, pk_us]
    · rw [if_neg e2, pk_un e2]
      exact h j (by omega)
section
variable {pr so si ed fl qf qs oc : Int32} {a1 a2 a3 a4 a5 a6 a7 a8 a9 a10 a11 a12 a13 a14 a15 a16 a17 a18 a19 : Nat → Int32}
theorem fw_has_w {post : Int32 → Prop} {PR k : Nat} (hp : pr = nI PR) (hP : PR < 2 ^ 31) (hk : k < 20) (h0 : fw_b PR k = 0 → post 0) (h1 : fw_b PR k ≠ 0 → post 1) : wpX_has post (pr, so, si, ed, fl, qf, qs, oc, a1, a2, a3, a4, a5, a6, a7, a8, a9, a10, a11, a12, a13, a14, a15, a16, a17, a18, a19) (nI k) := by
  subst hp
  refine br_f (nI_pos (by omega)) (br_f (nI_ge (b := 20) (by omega) (by decide)) ?_)
  rw [fw_sb hP (by omega)]
  have g := fw_b_2 PR k
  by_cases e : fw_b PR k = 0
  · exact br_t (by rw [e]; rfl) (h0 e)
  · exact br_f (nI_ne0 (by omega) (by omega)) (h1 e)
theorem fw_ae_w {post : St2 → Prop} {a b c TO NX FS LF E : Nat} {k : Nat → Nat → Nat → Nat → Nat → Bool} (he : ed = nI E) (hL : fw_L TO NX FS LF E a4 a5 a6 a7) (ha : a < 16) (hb : b < 16) (hc : c < 256) (hm : fw_ae a b c TO NX FS LF E k = true)
    (hp : ∀ (ed' : Int32) (a4' a5' a6' a7' : Nat → Int32) (TO' NX' FS' LF' E' : Nat), ed' = nI E' → fw_L TO' NX' FS' LF' E' a4' a5' a6' a7' → k TO' NX' FS' LF' E' = true → post (pr, so, si, ed', fl, qf, qs, oc, a1, a2, a3, a4', a5', a6', a7', a8, a9, a10, a11, a12, a13, a14, a15, a16, a17, a18, a19)) :
    wpX_addEdge post (pr, so, si, ed, fl, qf, qs, oc, a1, a2, a3, a4, a5, a6, a7, a8, a9, a10, a11, a12, a13, a14, a15, a16, a17, a18, a19) (nI a) (nI b) (nI c) := by
  subst he
  obtain ⟨h4, h5, h6, h7, hF⟩ := hL
  obtain ⟨c1, hm⟩ := fw_ifA hm
  have c1 := fw_le c1
  have iE : vp_in (nI E) 56 := fw_in (by omega)
  have iE1 : vp_in (nI E + 1) 56 := pk_in (E + 1) 56 (by omega) (nI_1 E)
  have ia : vp_in (nI a) 16 := fw_in ha
  have ib : vp_in (nI b) 16 := fw_in hb
  have e1 : (nI E + 1).toNatClampNeg = Nat.succ E := by rw [nI_1]; exact fw_cl (by omega)
  have r6 : a6 (nI a).toNatClampNeg = fw_o (fw_g FS a) := fw_rd (h6 a ha) (by omega)
  have f6 := hF a ha
  have h6' := fw_Ou h6 a (show Nat.succ E < 256 by omega)
  have f6b : fw_g (fw_s FS a (Nat.succ E)) b ≤ Nat.succ E := by
    rw [fw_g_e _ _ _ (by omega)]
    by_cases e : b = a
    · rw [if_pos e]; omega
    · rw [if_neg e]
      have := hF b hb
      omega
  refine ⟨iE, nm_r (fw_ud (y := nI b) (by omega) (fw_by b (by omega))) ⟨iE, nm_r (fw_ud (y := nI c) (by omega) rfl) ⟨ia, iE, nm_r (fw_ud (y := fw_o (fw_g FS a)) (by omega) (by rw [r6]; exact fw_nbo (by omega))) ⟨ia, nm_r (fw_ud (y := fw_o (Nat.succ E)) (by omega) (by rw [fw_by E (by omega), fw_oS])) ⟨iE1, nm_r (e' := upd (upd a4 E (nI b)) (Nat.succ E) (nI a)) (by rw [e1, fw_by a (by omega)]) ⟨iE1, nm_r (e' := upd (upd a5 E (nI c)) (Nat.succ E) (nI 0)) (by rw [e1]; rfl) ⟨ib, iE1, nm_r (e' := upd (upd a7 E (fw_o (fw_g FS a))) (Nat.succ E) (fw_o (fw_g (fw_s FS a (Nat.succ E)) b))) ?_ ⟨ib, nm_r (e' := upd (upd a6 a (fw_o (Nat.succ E))) b (fw_o (Nat.succ (Nat.succ E)))) ?_ (nm_r (e' := nI (Nat.succ (Nat.succ E))) (nI_add E 2) (hp _ _ _ _ _ _ _ _ _ _ rfl ⟨fw_A2 h4 (by omega) (by omega), fw_A2 h5 hc (by omega), fw_Ou h6' b (by omega), fw_O2 h7 (by omega) (by omega), ?_⟩ hm))⟩⟩⟩⟩⟩⟩⟩⟩
  · rw [e1, fw_cl (by omega), h6' b hb, fw_nbo (by omega)]
  · rw [fw_cl (by omega), nI_1, fw_by (E + 1) (by omega), show fw_o (Nat.succ (Nat.succ E)) = nI (E + 1) from fw_oS (E + 1)]
  · intro n hn
    rw [fw_g_e _ _ _ (by omega)]
    by_cases e : n = b
    · rw [if_pos e]; omega
    · rw [if_neg e, fw_g_e _ _ _ (by omega)]
      by_cases e2 : n = a
      · rw [if_pos e2]; omega
      · rw [if_neg e2]
        have := hF n hn
        omega
end
noncomputable def fw_oo (kind s t p : Nat) (k : Nat → Bool) : Bool := fw_if (Nat.ble 2 kind) (fw_if (Nat.beq p s) (k p) (fw_if (Nat.beq p t) (k p) (k (Nat.add p 8)))) (k p)
noncomputable def fw_cap (kind r : Nat) (k : Nat → Bool) : Bool := fw_if (Nat.beq kind 1) (fw_if (Nat.beq r 0) (k 0) (k 1)) (fw_if (Nat.beq kind 2) (fw_if (Nat.beq r 0) (k 0) (k 1)) (k r))
noncomputable def fw_l137 (kind s t much : Nat) (k : Nat → Nat → Nat → Nat → Nat → Bool) (F : Nat) : Nat → Nat → Nat → Nat → Nat → Nat → Bool :=
  @Nat.rec (fun _ => Nat → Nat → Nat → Nat → Nat → Nat → Bool) (fun _ TO NX FS LF E => k TO NX FS LF E)
    (fun _ ih p TO NX FS LF E => fw_if (Nat.ble 2 kind) (fw_if (Nat.beq p s) (ih (Nat.succ p) TO NX FS LF E) (fw_if (Nat.beq p t) (ih (Nat.succ p) TO NX FS LF E) (fw_ae p (Nat.add p 8) much TO NX FS LF E (ih (Nat.succ p))))) (k TO NX FS LF E)) F
noncomputable def fw_l47 (PR FR TT RM kind s t : Nat) (k : Nat → Nat → Nat → Nat → Nat → Bool) (F : Nat) : Nat → Nat → Nat → Nat → Nat → Nat → Bool :=
  @Nat.rec (fun _ => Nat → Nat → Nat → Nat → Nat → Nat → Bool) (fun _ TO NX FS LF E => k TO NX FS LF E)
    (fun _ ih i TO NX FS LF E => fw_if (Nat.beq (fw_b PR i) 0) (ih (Nat.succ i) TO NX FS LF E) (fw_oo kind s t (fw_g FR i) (fun fr => fw_cap kind (fw_g RM i) (fun c => fw_ae fr (fw_g TT i) c TO NX FS LF E (ih (Nat.succ i)))))) F
noncomputable def fw_lay (PR FR TT RM kind s t much : Nat) (k : Nat → Nat → Nat → Nat → Nat → Bool) : Bool :=
  fw_l47 PR FR TT RM kind s t (fun TO NX FS LF E => fw_l137 kind s t much k 8 0 TO NX FS LF E) 20 0 0 0 0 0 0
section
variable {pr so si fl qf qs oc : Int32} {a1 a2 a3 a8 a9 a10 a11 a12 a13 a14 a15 a16 a17 a18 a19 : Nat → Int32}
theorem fw_l137_l {post : St2 → Prop} {kind s t much : Nat} {k : Nat → Nat → Nat → Nat → Nat → Bool} (hk : kind < 4) (hs : s < 8) (ht : t < 8) (hmu : much < 256)
    (hp : ∀ (ed' : Int32) (a4' a5' a6' a7' : Nat → Int32) (TO' NX' FS' LF' E' : Nat), ed' = nI E' → fw_L TO' NX' FS' LF' E' a4' a5' a6' a7' → k TO' NX' FS' LF' E' = true → post (pr, so, si, ed', fl, qf, qs, oc, a1, a2, a3, a4', a5', a6', a7', a8, a9, a10, a11, a12, a13, a14, a15, a16, a17, a18, a19)) :
    ∀ (F p TO NX FS LF E : Nat) (ed : Int32) (a4 a5 a6 a7 : Nat → Int32), p + F = 8 → ed = nI E → fw_L TO NX FS LF E a4 a5 a6 a7 → fw_l137 kind s t much k F p TO NX FS LF E = true →
      wX_lay_137 post (nI kind) (nI s) (nI t) (nI much) (F + 1) (nI p) pr so si ed fl qf qs oc a1 a2 a3 a4 a5 a6 a7 a8 a9 a10 a11 a12 a13 a14 a15 a16 a17 a18 a19 := by
  intro F
  induction F with
  | zero =>
    intro p TO NX FS LF E ed a4 a5 a6 a7 hp0 he hL hm
    exact br_t (by rw [show p = 8 by omega]; decide) (hp _ _ _ _ _ _ _ _ _ _ he hL hm)
  | succ F ih =>
    intro p TO NX FS LF E ed a4 a5 a6 a7 hp0 he hL hm
    refine br_f (nI_ge (b := 8) (by omega) (by decide)) ?_
    rcases fw_ifE hm with ⟨c, hm⟩ | ⟨c, hm⟩
    · have c := fw_le c
      refine br_f (nI_nlt (b := 2) c (by omega)) ?_
      rcases fw_ifE hm with ⟨c1, hm⟩ | ⟨c1, hm⟩
      · have c1 := fw_eq c1
        exact br_t (by rw [c1]) (nm_r (nI_1 p) (ih _ _ _ _ _ _ _ _ _ _ _ (by omega) he hL hm))
      have c1 := fw_ne c1
      refine br_f (by rw [nI_eq (by omega) (by omega)]; exact c1) ?_
      rcases fw_ifE hm with ⟨c2, hm⟩ | ⟨c2, hm⟩
      · have c2 := fw_eq c2
        exact br_t (by rw [c2]) (nm_r (nI_1 p) (ih _ _ _ _ _ _ _ _ _ _ _ (by omega) he hL hm))
      have c2 := fw_ne c2
      refine br_f (by rw [nI_eq (by omega) (by omega)]; exact c2) ?_
      have e8 : nI p + 8 = nI (Nat.add p 8) := nI_add p 8
      rw [e8]
      exact fw_ae_w he hL (by omega) (by show p + 8 < 16; omega) hmu hm (fun ed' a4' a5' a6' a7' TO' NX' FS' LF' E' he' hL' hm => nm_r (nI_1 p) (ih _ _ _ _ _ _ _ _ _ _ _ (by omega) he' hL' hm))
    · have c := fw_gt c
      exact br_t (nI_lt (b := 2) c (by decide)) (hp _ _ _ _ _ _ _ _ _ _ he hL hm)
theorem fw_l47_l {post : St2 → Prop} {PR FR TT RM kind s t : Nat} {x4 : Int32} {k : Nat → Nat → Nat → Nat → Nat → Bool} (hA : fw_Arcs PR FR TT RM pr a1 a2 a3) (hk : kind < 4) (hs : s < 8) (ht : t < 8)
    (hp : ∀ (ed' : Int32) (a4' a5' a6' a7' : Nat → Int32) (TO' NX' FS' LF' E' : Nat), ed' = nI E' → fw_L TO' NX' FS' LF' E' a4' a5' a6' a7' → k TO' NX' FS' LF' E' = true → ∃ f, wX_lay_137 post (nI kind) (nI s) (nI t) x4 f 0 pr (nI s) (nI t) ed' fl qf qs oc a1 a2 a3 a4' a5' a6' a7' a8 a9 a10 a11 a12 a13 a14 a15 a16 a17 a18 a19) :
    ∀ (F i TO NX FS LF E : Nat) (ed : Int32) (a4 a5 a6 a7 : Nat → Int32), i + F = 20 → ed = nI E → fw_L TO NX FS LF E a4 a5 a6 a7 → fw_l47 PR FR TT RM kind s t k F i TO NX FS LF E = true →
      wX_lay_47 post (nI kind) (nI s) (nI t) x4 (F + 1) (nI i) pr (nI s) (nI t) ed fl qf qs oc a1 a2 a3 a4 a5 a6 a7 a8 a9 a10 a11 a12 a13 a14 a15 a16 a17 a18 a19 := by
  obtain ⟨hP, hpr, hA⟩ := hA
  intro F
  induction F with
  | zero =>
    intro i TO NX FS LF E ed a4 a5 a6 a7 hi he hL hm
    exact br_t (by rw [show i = 20 by omega]; decide) (hp _ _ _ _ _ _ _ _ _ _ he hL hm)
  | succ F ih =>
    intro i TO NX FS LF E ed a4 a5 a6 a7 hi he hL hm
    refine br_f (nI_ge (b := 20) (by omega) (by decide)) (fw_has_w hpr (by omega) (by omega) (fun c => ?_) (fun c => ?_))
    · rcases fw_ifE hm with ⟨c', hm⟩ | ⟨c', hm⟩
      · exact br_t rfl (nm_r (nI_1 i) (ih _ _ _ _ _ _ _ _ _ _ _ (by omega) he hL hm))
      · exact absurd c (fw_ne c')
    · rcases fw_ifE hm with ⟨c', hm⟩ | ⟨c', hm⟩
      · exact absurd (fw_eq c') c
      obtain ⟨hf8, h1, ht8, h2, h3⟩ := hA i (by omega) c
      have ii : vp_in (nI i) 20 := fw_in (by omega)
      have r1 : a1 (nI i).toNatClampNeg = nI (fw_g FR i) := fw_rd h1 (by omega)
      have r2 : a2 (nI i).toNatClampNeg = nI (fw_g TT i) := fw_rd h2 (by omega)
      have r3 : a3 (nI i).toNatClampNeg = nI (fw_g RM i) := fw_rd h3 (by omega)
      have g3 := fw_g_lt RM i
      -- the edge, once its beginning and its room are known
      have put : ∀ (fr c : Nat), fr < 16 → c < 256 → fw_ae fr (fw_g TT i) c TO NX FS LF E (fw_l47 PR FR TT RM kind s t k F (Nat.succ i)) = true → ∀ (x5 z1 : Int32), x5 = nI i → z1 = nI (fw_g TT i) → wX_lay_125 post (wX_lay_47 post (nI kind) (nI s) (nI t) x4 (F + 1)) (nI kind) (nI s) (nI t) x4 x5 (nI c) z1 (nI fr) pr (nI s) (nI t) ed fl qf qs oc a1 a2 a3 a4 a5 a6 a7 a8 a9 a10 a11 a12 a13 a14 a15 a16 a17 a18 a19 := by
        intro fr c hfr hc hm x5 z1 e5 e1
        subst e5
        subst e1
        exact fw_ae_w he hL hfr (by omega) hc hm (fun ed' a4' a5' a6' a7' TO' NX' FS' LF' E' he' hL' hm => nm_r (nI_1 i) (ih _ _ _ _ _ _ _ _ _ _ _ (by omega) he' hL' hm))
      have cap : ∀ (fr : Nat) (z0 : Int32), fr < 16 → (fw_g RM i = 0 → z0 = nI 0) → (fw_g RM i ≠ 0 → z0 = nI 1) → fw_cap kind (fw_g RM i) (fun c => fw_ae fr (fw_g TT i) c TO NX FS LF E (fw_l47 PR FR TT RM kind s t k F (Nat.succ i))) = true →
          (vp_in (nI i) 20 ∧ (((nI kind = 1 → (wX_lay_118 post (wX_lay_47 post (nI kind) (nI s) (nI t) x4 (F + 1)) (nI kind) (nI s) (nI t) x4 (nI i) z0 (a2 (nI i).toNatClampNeg) (nI fr) pr (nI s) (nI t) ed fl qf qs oc a1 a2 a3 a4 a5 a6 a7 a8 a9 a10 a11 a12 a13 a14 a15 a16 a17 a18 a19)) ∧ (¬ nI kind = 1 → (((nI kind = 2 → (wX_lay_118 post (wX_lay_47 post (nI kind) (nI s) (nI t) x4 (F + 1)) (nI kind) (nI s) (nI t) x4 (nI i) z0 (a2 (nI i).toNatClampNeg) (nI fr) pr (nI s) (nI t) ed fl qf qs oc a1 a2 a3 a4 a5 a6 a7 a8 a9 a10 a11 a12 a13 a14 a15 a16 a17 a18 a19)) ∧ (¬ nI kind = 2 → (wX_lay_125 post (wX_lay_47 post (nI kind) (nI s) (nI t) x4 (F + 1)) (nI kind) (nI s) (nI t) x4 (nI i) (nI (fw_g RM i)) (a2 (nI i).toNatClampNeg) (nI fr) pr (nI s) (nI t) ed fl qf qs oc a1 a2 a3 a4 a5 a6 a7 a8 a9 a10 a11 a12 a13 a14 a15 a16 a17 a18 a19)))))))) := by
        intro fr z0 hfr e0 e1 hm
        have one : fw_if (Nat.beq (fw_g RM i) 0) (fw_ae fr (fw_g TT i) 0 TO NX FS LF E (fw_l47 PR FR TT RM kind s t k F (Nat.succ i))) (fw_ae fr (fw_g TT i) 1 TO NX FS LF E (fw_l47 PR FR TT RM kind s t k F (Nat.succ i))) = true → wX_lay_118 post (wX_lay_47 post (nI kind) (nI s) (nI t) x4 (F + 1)) (nI kind) (nI s) (nI t) x4 (nI i) z0 (a2 (nI i).toNatClampNeg) (nI fr) pr (nI s) (nI t) ed fl qf qs oc a1 a2 a3 a4 a5 a6 a7 a8 a9 a10 a11 a12 a13 a14 a15 a16 a17 a18 a19 := by
          intro hm
          rcases fw_ifE hm with ⟨c, hm⟩ | ⟨c, hm⟩
          · rw [e0 (fw_eq c)]
            exact put fr 0 hfr (by omega) hm _ _ rfl r2
          · rw [e1 (fw_ne c)]
            exact put fr 1 hfr (by omega) hm _ _ rfl r2
        refine ⟨ii, ?_⟩
        rcases fw_ifE hm with ⟨c, hm⟩ | ⟨c, hm⟩
        · have c := fw_eq c
          exact br_t (by rw [c]; rfl) (one hm)
        have c := fw_ne c
        refine br_f (fun z => c ((nI_eq (b := 1) (by omega) (by omega)).mp z)) ?_
        rcases fw_ifE hm with ⟨c, hm⟩ | ⟨c, hm⟩
        · have c := fw_eq c
          exact br_t (by rw [c]; rfl) (one hm)
        have c := fw_ne c
        exact br_f (fun z => c ((nI_eq (b := 2) (by omega) (by omega)).mp z)) (put fr _ hfr g3 hm _ _ rfl r2)
      have mid : ∀ (z0 : Int32), (fw_g RM i = 0 → z0 = nI 0) → (fw_g RM i ≠ 0 → z0 = nI 1) → wX_lay_82 post (wX_lay_47 post (nI kind) (nI s) (nI t) x4 (F + 1)) (nI kind) (nI s) (nI t) x4 (nI i) (nI (fw_g RM i)) z0 pr (nI s) (nI t) ed fl qf qs oc a1 a2 a3 a4 a5 a6 a7 a8 a9 a10 a11 a12 a13 a14 a15 a16 a17 a18 a19 := by
        intro z0 e0 e1
        refine ⟨ii, ?_⟩
        rw [r1]
        rcases fw_ifE hm with ⟨c, hm⟩ | ⟨c, hm⟩
        · have c := fw_le c
          refine br_f (nI_nlt (b := 2) c (by omega)) ?_
          rcases fw_ifE hm with ⟨c1, hm⟩ | ⟨c1, hm⟩
          · have c1 := fw_eq c1
            exact br_t (by rw [c1]) (br_t rfl (cap _ z0 (by omega) e0 e1 hm))
          have c1 := fw_ne c1
          refine br_f (by rw [nI_eq (by omega) (by omega)]; exact c1) ?_
          rcases fw_ifE hm with ⟨c2, hm⟩ | ⟨c2, hm⟩
          · have c2 := fw_eq c2
            exact br_t (by rw [c2]) (br_t rfl (cap _ z0 (by omega) e0 e1 hm))
          have c2 := fw_ne c2
          have W := cap (Nat.add (fw_g FR i) 8) z0 (by show fw_g FR i + 8 < 16; omega) e0 e1 hm
          rw [show nI (Nat.add (fw_g FR i) 8) = nI (fw_g FR i) + 8 from (nI_add _ 8).symm] at W
          exact br_f (by rw [nI_eq (by omega) (by omega)]; exact c2) (br_f (by decide) W)
        · have c := fw_gt c
          exact br_t (nI_lt (b := 2) c (by decide)) (br_t rfl (cap _ z0 (by omega) e0 e1 hm))
      refine br_f (by decide) ⟨ii, nm_r r3 ?_⟩
      by_cases e : fw_g RM i = 0
      · exact br_t (by rw [e]; decide) (mid 0 (fun _ => rfl) (fun z => absurd e z))
      · exact br_f (nI_nle (by omega) (by omega)) (mid 1 (fun z => absurd z e) (fun _ => rfl))
end
section
variable {pr so si ed fl qf qs oc : Int32} {a1 a2 a3 a4 a5 a6 a7 a8 a9 a10 a11 a12 a13 a14 a15 a16 a17 a18 a19 : Nat → Int32}
theorem fw_lay_w {post : St2 → Prop} {PR FR TT RM kind s t much : Nat} {k : Nat → Nat → Nat → Nat → Nat → Bool} (hA : fw_Arcs PR FR TT RM pr a1 a2 a3) (hk : kind < 4) (hs : s < 8) (ht : t < 8) (hmu : much < 256)
    (hm : fw_lay PR FR TT RM kind s t much k = true)
    (hp : ∀ (a4' a5' a6' a7' : Nat → Int32) (TO' NX' FS' LF' E' : Nat), fw_L TO' NX' FS' LF' E' a4' a5' a6' a7' → k TO' NX' FS' LF' E' = true → post (pr, nI s, nI t, nI E', 0, qf, qs, oc, a1, a2, a3, a4', a5', a6', a7', a8, a9, a10, a11, a12, a13, a14, a15, a16, a17, a18, a19)) :
    wpX_lay post (pr, so, si, ed, fl, qf, qs, oc, a1, a2, a3, a4, a5, a6, a7, a8, a9, a10, a11, a12, a13, a14, a15, a16, a17, a18, a19) (nI kind) (nI s) (nI t) (nI much) := by
  refine pk_loop (fun f i a => wX_lay_23 post (nI kind) (nI s) (nI t) (nI much) pr (nI s) (nI t) 0 0 qf qs oc f (nI i) a1 a2 a3 a4 a5 a a7 a8 a9 a10 a11 a12 a13 a14 a15 a16 a17 a18 a19) (fun i a => ∀ j, j < i → a j = fw_o 0) 16 0 a6 (by omega) (fun j hj => absurd hj (by omega)) ?_ ?_
  · intro f a h
    have h6 : fw_O 16 a 0 := fun j hj => by rw [h j hj, fw_g_0]
    refine pk_le 16 16 (fun _ => ⟨21, ?_⟩) (fun z => absurd z (by omega))
    refine fw_l47_l hA hk hs ht (fun ed' a4' a5' a6' a7' TO' NX' FS' LF' E' he' hL' hm => ⟨9, fw_l137_l hk hs ht hmu (fun ed2 a42 a52 a62 a72 TO2 NX2 FS2 LF2 E2 he2 hL2 hm => ?_) 8 0 _ _ _ _ _ _ _ _ _ _ (by omega) he' hL' hm⟩) 20 0 0 0 0 0 0 _ _ _ _ _ (by omega) rfl ⟨fun j hj => absurd hj (Nat.not_lt_zero j), fun j hj => absurd hj (Nat.not_lt_zero j), h6, fun j hj => absurd hj (Nat.not_lt_zero j), fun n _ => by rw [fw_g_0]; exact Nat.le_refl 0⟩ hm
    subst he2
    exact hp _ _ _ _ _ _ _ _ _ hL2 hm
  · intro f i a hi h hw
    refine pk_le 16 i (fun z => absurd z (by omega)) (fun _ => ⟨fw_in hi, nm_r (fw_ud (y := fw_o 0) (by omega) rfl) (nm_r (nI_1 i) (hw _ (fun j hj => ?_)))⟩)
    by_cases e : j = i
    · rw [e, pk_us]
    · rw [pk_un e]
      exact h j (by omega)
end
end
section
/-! a net that is laid; the engines at one name -/
noncomputable def fw_all (f : Nat → Bool) (n : Nat) : Bool := @Nat.rec (fun _ => Bool) true (fun m ih => fw_if (f m) ih false) n
theorem fw_allE {f : Nat → Bool} : ∀ {n : Nat}, fw_all f n = true → ∀ m, m < n → f m = true := by
  intro n
  induction n with
  | zero => exact fun _ m hm => absurd hm (Nat.not_lt_zero m)
  | succ n ih =>
    intro h m hm
    obtain ⟨c, h⟩ := fw_ifA h
    by_cases e : m = n
    · rw [e]; exact c
    · exact ih h m (by omega)
noncomputable def fw_cc (TO NX E n : Nat) (L : List (Nat × Nat)) : Nat → Bool :=
  @List.rec (Nat × Nat) (fun _ => Nat → Bool) (fun x => Nat.beq x 0)
    (fun p _ ih x => fw_if (Nat.beq x (Nat.succ p.1)) (fw_if (Nat.ble (Nat.succ p.1) E) (fw_if (Nat.ble (Nat.succ (Nat.xor p.1 1)) E) (fw_if (Nat.beq (fw_g TO p.1) p.2) (fw_if (Nat.ble p.2 15) (fw_if (Nat.beq (fw_g TO (Nat.xor p.1 1)) n) (ih (fw_g NX p.1)) false) false) false) false) false) false) L
noncomputable def fw_nc (adj : Nat → List (Nat × Nat)) (TO NX FS E : Nat) : Bool :=
  fw_if (Nat.ble E 56) (fw_if (fw_all (fun e => fw_if (Nat.ble (Nat.succ (Nat.xor e 1)) E) (fw_if (Nat.ble (fw_g TO e) 15) (Nat.ble (fw_g NX e) E) false) false) E)
    (fw_all (fun n => fw_if (Nat.ble (fw_g FS n) E) (fw_cc TO NX E n (adj n) (fw_g FS n)) false) 16) false) false
theorem fw_cc_l {TO NX E n : Nat} {a4 a7 : Nat → Int32} (h4 : fw_A E a4 TO) (h7 : fw_O E a7 NX) : ∀ (L : List (Nat × Nat)) (x : Nat), fw_cc TO NX E n L x = true → fw_Ch a4 a7 n E L (fw_o x) := by
  intro L
  induction L with
  | nil =>
    intro x hm
    have : x = 0 := fw_eq hm
    subst this
    exact fw_o0
  | cons p L ih =>
    intro x hm
    obtain ⟨c1, hm⟩ := fw_ifA hm
    obtain ⟨c2, hm⟩ := fw_ifA hm
    obtain ⟨c3, hm⟩ := fw_ifA hm
    obtain ⟨c4, hm⟩ := fw_ifA hm
    obtain ⟨c5, hm⟩ := fw_ifA hm
    obtain ⟨c6, hm⟩ := fw_ifA hm
    have c1 := fw_eq c1
    have c2 := fw_le c2
    have c3 := fw_le c3
    have c4 := fw_eq c4
    have c5 := fw_le c5
    have c6 := fw_eq c6
    refine ⟨by rw [c1, fw_oS], by omega, by omega, by rw [h4 _ (by omega), c4], by omega, by rw [h4 _ (by omega), c6], ?_⟩
    rw [h7 _ (by omega)]
    exact ih _ hm
theorem fw_nc_l {adj : Nat → List (Nat × Nat)} {TO NX FS LF E : Nat} {a4 a5 a6 a7 : Nat → Int32} (hm : fw_nc adj TO NX FS E = true) (hL : fw_L TO NX FS LF E a4 a5 a6 a7) : fw_Net adj TO NX FS E a4 a6 a7 := by
  obtain ⟨h4, _, h6, h7, _⟩ := hL
  obtain ⟨c1, hm⟩ := fw_ifA hm
  obtain ⟨c2, hm⟩ := fw_ifA hm
  have c1 := fw_le c1
  refine ⟨c1, fun n hn => ?_, fun e he => ?_, fun n hn => ?_⟩
  · obtain ⟨_, c⟩ := fw_ifA (fw_allE hm n hn)
    rw [h6 n hn]
    exact fw_cc_l h4 h7 (adj n) _ c
  · obtain ⟨d1, c⟩ := fw_ifA (fw_allE c2 e he)
    obtain ⟨d2, c⟩ := fw_ifA c
    have d1 := fw_le d1
    have d2 := fw_le d2
    exact ⟨by omega, by omega, h4 e he, fw_le c, h7 e he⟩
  · obtain ⟨d1, c⟩ := fw_ifA (fw_allE hm n hn)
    exact ⟨fw_le d1, h6 n hn⟩
noncomputable def fw_solve (adj : Nat → List (Nat × Nat)) (TO NX FS E s t g LF : Nat) (k : Nat → Nat → Bool) : Bool :=
  fw_if (Nat.beq g 0) (fw_e0 adj TO E s t k 200 LF 0) (fw_if (Nat.beq g 1) (fw_e1 adj TO NX FS E s t 60 2000 k 40 LF 0) (fw_if (Nat.beq g 2) (fw_e2 adj s t 5000 LF k) (fw_if (Nat.beq g 3) (fw_e3 adj s t 5000 LF k)
    (fw_if (Nat.beq g 4) (fw_e4 adj TO E s t 200 k 9 64 LF 0) (fw_if (Nat.beq g 5) (fw_e5 adj s t 40 k 40 LF 0) (fw_e6 adj TO E s t 5000 LF k))))))
section
variable {pr so si ed qf qs oc : Int32} {a1 a2 a3 a4 a5 a6 a7 a8 a9 a10 a11 a12 a13 a14 a15 a16 a17 a18 a19 : Nat → Int32}
theorem fw_solve_w {post : St2 → Prop} {adj : Nat → List (Nat × Nat)} {TO NX FS E s t g LF : Nat} {k : Nat → Nat → Bool} (hN : fw_Net adj TO NX FS E a4 a6 a7) (hs : s < 16) (ht : t < 16) (hst : t ≠ s) (h5 : fw_A E a5 LF) (hg : g < 7)
    (hm : fw_solve adj TO NX FS E s t g LF k = true)
    (hp : ∀ (fl' qf' qs' oc' : Int32) (a5' a8' a9' a10' a11' a12' a13' a14' a15' a16' a17' a18' a19' : Nat → Int32) (LF' n' : Nat), fw_A E a5' LF' → fl' = nI n' → k LF' n' = true → post (pr, nI s, nI t, ed, fl', qf', qs', oc', a1, a2, a3, a4, a5', a6, a7, a8', a9', a10', a11', a12', a13', a14', a15', a16', a17', a18', a19')) :
    wpX_solve post (pr, nI s, nI t, ed, 0, qf, qs, oc, a1, a2, a3, a4, a5, a6, a7, a8, a9, a10, a11, a12, a13, a14, a15, a16, a17, a18, a19) (nI g) := by
  rcases fw_ifE hm with ⟨c, hm0⟩ | ⟨d0, hn0⟩
  · have c := fw_eq c
    clear hm
    subst c
    exact br_f (by decide) (br_f (by decide) (br_t (by decide) ⟨200, fw_e0_w hN hs ht (fun fl' qf' qs' a5' a8' a10' a13' a14' LF' n' h5' e' hm => hp _ _ _ _ _ _ _ _ _ _ _ _ _ _ _ _ _ _ _ h5' e' hm) 200 LF 0 _ _ _ _ _ _ _ h5 hm0⟩))
  rcases fw_ifE hn0 with ⟨c, hm1⟩ | ⟨d1, hn1⟩
  · have c := fw_eq c
    clear hm
    subst c
    exact br_f (by decide) (br_f (by decide) (br_f (by decide) (br_t (by decide) ⟨40, fw_e1_w hN hs ht (fun fl' qf' qs' a5' a8' a9' a10' a13' a14' a15' LF' n' h5' e' hm => hp _ _ _ _ _ _ _ _ _ _ _ _ _ _ _ _ _ _ _ h5' e' hm) 40 LF 0 _ _ _ _ _ _ _ _ _ h5 hm1⟩)))
  rcases fw_ifE hn1 with ⟨c, hm2⟩ | ⟨d2, hn2⟩
  · have c := fw_eq c
    clear hm
    subst c
    exact br_f (by decide) (br_f (by decide) (br_f (by decide) (br_f (by decide) (br_t (by decide) (fw_e2_w hN hs ht hst (show 5000 ≤ 100000 by omega) h5 hm2 (fun fl' qf' qs' a5' a8' a11' a12' a13' a14' LF' n' h5' e' hm => hp _ _ _ _ _ _ _ _ _ _ _ _ _ _ _ _ _ _ _ h5' e' hm))))))
  rcases fw_ifE hn2 with ⟨c, hm3⟩ | ⟨d3, hn3⟩
  · have c := fw_eq c
    clear hm
    subst c
    exact br_f (by decide) (br_f (by decide) (br_f (by decide) (br_f (by decide) (br_f (by decide) (br_t (by decide) (fw_e3_w hN hs ht hst (show 5000 ≤ 100000 by omega) h5 hm3 (fun fl' qf' qs' a5' a8' a11' a12' a13' a14' LF' n' h5' e' hm => hp _ _ _ _ _ _ _ _ _ _ _ _ _ _ _ _ _ _ _ h5' e' hm)))))))
  rcases fw_ifE hn3 with ⟨c, hm4⟩ | ⟨d4, hn4⟩
  · have c := fw_eq c
    clear hm
    subst c
    exact br_f (by decide) (br_f (by decide) (br_f (by decide) (br_f (by decide) (br_f (by decide) (br_f (by decide) (br_t (by decide) ⟨9, fw_e4_w (G := 200) hN hs ht (fun fl' qf' qs' a5' a8' a10' a13' a14' LF' n' h5' e' hm => hp _ _ _ _ _ _ _ _ _ _ _ _ _ _ _ _ _ _ _ h5' e' hm) 9 64 LF 0 _ _ _ _ _ _ _ (show 64 < 65536 by omega) h5 hm4⟩))))))
  rcases fw_ifE hn4 with ⟨c, hm5⟩ | ⟨d5, hn5⟩
  · have c := fw_eq c
    clear hm
    subst c
    exact br_f (by decide) (br_f (by decide) (br_f (by decide) (br_f (by decide) (br_f (by decide) (br_f (by decide) (br_f (by decide) (br_t (by decide) ⟨40, fw_e5_w hN hs ht (fun fl' qf' qs' a5' a8' a10' a13' a14' a16' a17' LF' n' h5' e' hm => hp _ _ _ _ _ _ _ _ _ _ _ _ _ _ _ _ _ _ _ h5' e' hm) 40 LF 0 _ _ _ _ _ _ _ _ _ h5 hm5⟩)))))))
  have c : g = 6 := by
    have := fw_ne d0
    have := fw_ne d1
    have := fw_ne d2
    have := fw_ne d3
    have := fw_ne d4
    have := fw_ne d5
    omega
  subst c
  exact br_f (by decide) (br_t (by decide) (fw_e6_w hN hs ht hst (show 5000 ≤ 100000 by omega) h5 hn5 (fun fl' qf' qs' oc' a5' a10' a13' a14' a18' a19' LF' n' h5' e' hm => hp _ _ _ _ _ _ _ _ _ _ _ _ _ _ _ _ _ _ _ h5' e' hm)))
end
noncomputable def fw_is (TO0 NX0 FS0 LF0 E0 : Nat) (TO NX FS LF E : Nat) : Bool := fw_if (Nat.beq TO TO0) (fw_if (Nat.beq NX NX0) (fw_if (Nat.beq FS FS0) (fw_if (Nat.beq LF LF0) (Nat.beq E E0) false) false) false) false
section
variable {pr so si ed fl qf qs oc : Int32} {a1 a2 a3 a4 a5 a6 a7 a8 a9 a10 a11 a12 a13 a14 a15 a16 a17 a18 a19 : Nat → Int32}
theorem fw_ls_w {post : Int32 → St2 → Prop} {adj : Nat → List (Nat × Nat)} {PR FR TT RM kind much TO NX FS E s t g LF : Nat} {k : Nat → Nat → Bool} (hA : fw_Arcs PR FR TT RM pr a1 a2 a3) (hk : kind < 4) (hs : s < 8) (ht : t < 8) (hst : t ≠ s) (hmu : much < 256) (hg : g < 7)
    (hl : fw_lay PR FR TT RM kind s t much (fw_is TO NX FS LF E) = true) (hn : fw_nc adj TO NX FS E = true) (hm : fw_solve adj TO NX FS E s t g LF k = true)
    (hp : ∀ (qf' qs' oc' : Int32) (a4' a5' a6' a7' a8' a9' a10' a11' a12' a13' a14' a15' a16' a17' a18' a19' : Nat → Int32) (LF' n' : Nat), fw_Net adj TO NX FS E a4' a6' a7' → fw_A E a5' LF' → k LF' n' = true → post (nI n') (pr, nI s, nI t, nI E, nI n', qf', qs', oc', a1, a2, a3, a4', a5', a6', a7', a8', a9', a10', a11', a12', a13', a14', a15', a16', a17', a18', a19')) :
    wpX_lay (fun u => match u with | (pr2, so2, si2, ed2, fl2, qf2, qs2, oc2, b1, b2, b3, b4, b5, b6, b7, b8, b9, b10, b11, b12, b13, b14, b15, b16, b17, b18, b19) => (wpX_solve (fun u => match u with | (pr2, so2, si2, ed2, fl2, qf2, qs2, oc2, b1, b2, b3, b4, b5, b6, b7, b8, b9, b10, b11, b12, b13, b14, b15, b16, b17, b18, b19) => (post fl2 (pr2, so2, si2, ed2, fl2, qf2, qs2, oc2, b1, b2, b3, b4, b5, b6, b7, b8, b9, b10, b11, b12, b13, b14, b15, b16, b17, b18, b19))) (pr2, so2, si2, ed2, fl2, qf2, qs2, oc2, b1, b2, b3, b4, b5, b6, b7, b8, b9, b10, b11, b12, b13, b14, b15, b16, b17, b18, b19) (nI g))) (pr, so, si, ed, fl, qf, qs, oc, a1, a2, a3, a4, a5, a6, a7, a8, a9, a10, a11, a12, a13, a14, a15, a16, a17, a18, a19) (nI kind) (nI s) (nI t) (nI much) := by
  refine fw_lay_w hA hk hs ht hmu hl (fun a42 a52 a62 a72 TO2 NX2 FS2 LF2 E2 hL he => ?_)
  obtain ⟨e1, he⟩ := fw_ifA he
  obtain ⟨e2, he⟩ := fw_ifA he
  obtain ⟨e3, he⟩ := fw_ifA he
  obtain ⟨e4, e5⟩ := fw_ifA he
  have e1 := fw_eq e1
  have e2 := fw_eq e2
  have e3 := fw_eq e3
  have e4 := fw_eq e4
  have e5 := fw_eq e5
  rw [e1, e2, e3, e4, e5] at hL
  rw [e5]
  have hN := fw_nc_l hn hL
  refine fw_solve_w hN (by omega) (by omega) hst hL.2.1 hg hm (fun fl3 qf3 qs3 oc3 a53 a83 a93 a103 a113 a123 a133 a143 a153 a163 a173 a183 a193 LF3 n3 h53 ef hm => ?_)
  subst ef
  exact hp _ _ _ _ _ _ _ _ _ _ _ _ _ _ _ _ _ _ _ _ _ hN h53 hm
theorem fw_best_w {post : Int32 → St2 → Prop} {adj : Nat → List (Nat × Nat)} {PR FR TT RM kind TO NX FS E s t g LF : Nat} {k : Nat → Nat → Bool} (hA : fw_Arcs PR FR TT RM pr a1 a2 a3) (hk : kind < 4) (hs : s < 8) (ht : t < 8) (hst : t ≠ s) (hg : g < 7)
    (hl : fw_lay PR FR TT RM kind s t 1 (fw_is TO NX FS LF E) = true) (hn : fw_nc adj TO NX FS E = true) (hm : fw_solve adj TO NX FS E s t g LF k = true)
    (hp : ∀ (qf' qs' oc' : Int32) (a4' a5' a6' a7' a8' a9' a10' a11' a12' a13' a14' a15' a16' a17' a18' a19' : Nat → Int32) (LF' n' : Nat), fw_Net adj TO NX FS E a4' a6' a7' → fw_A E a5' LF' → k LF' n' = true → post (nI n') (pr, nI s, nI t, nI E, nI n', qf', qs', oc', a1, a2, a3, a4', a5', a6', a7', a8', a9', a10', a11', a12', a13', a14', a15', a16', a17', a18', a19')) :
    wpX_best post (pr, so, si, ed, fl, qf, qs, oc, a1, a2, a3, a4, a5, a6, a7, a8, a9, a10, a11, a12, a13, a14, a15, a16, a17, a18, a19) (nI g) (nI kind) (nI s) (nI t) := by
  unfold wpX_best
  exact fw_ls_w (much := 1) hA hk hs ht hst (by omega) hg hl hn hm hp
theorem fw_pair1 {post : Int32 → Prop} {s t : Nat} (hs : s < 8) (ht : t < 8) (hst : t ≠ s) (h : post 1) : wpX_isPair post () (nI s) (nI t) := by
  unfold wpX_isPair
  refine br_f (nI_pos (by omega)) (br_f (nI_ge (b := 8) (by omega) (by decide)) (br_f (by decide) ?_))
  exact br_f (nI_pos (by omega)) (br_f (nI_ge (b := 8) (by omega) (by decide)) (br_f (by decide) (br_f (by rw [nI_eq (by omega) (by omega)]; exact fun z => hst z.symm) h)))
theorem fw_eng1 {post : Int32 → Prop} {g : Nat} (hg : g < 7) (h : post 1) : wpX_isEngine post () (nI g) :=
  br_f (nI_pos (by omega)) (br_f (nI_ge (b := 7) (by omega) (by decide)) h)
end
end
section
/-! sets of points to which, or from which, room is left -/
noncomputable def fw_ifn (c : Bool) (x y : Nat) : Nat := @Bool.rec (fun _ => Nat) y x c
noncomputable def fw_up (X Y : Nat → Nat) (LF e S : Nat) : Nat := fw_ifn (Nat.beq (fw_g LF e) 0) S (fw_ifn (Nat.beq (fw_b S (X e)) 0) S (fw_on S (Y e)))
noncomputable def fw_rd1 (X Y : Nat → Nat) (LF F : Nat) : Nat → Nat → Nat :=
  @Nat.rec (fun _ => Nat → Nat → Nat) (fun _ S => S) (fun _ ih e S => ih (Nat.succ e) (fw_up X Y LF e S)) F
noncomputable def fw_rds (X Y : Nat → Nat) (LF E : Nat) (k : Nat → Bool) (F : Nat) : Nat → Bool :=
  @Nat.rec (fun _ => Nat → Bool) k (fun _ ih S => (fun S' => fw_if (Nat.beq S' S) (k S) (ih S')) (fw_rd1 X Y LF E 0 S)) F
def fw_hd (TO e : Nat) : Nat := fw_g TO e
def fw_tl (TO e : Nat) : Nat := fw_g TO (Nat.xor e 1)
theorem fw_on_lt {S v n : Nat} (hS : S < 2 ^ n) (hv : v < n) : fw_on S v < 2 ^ n := by
  show S ||| (1 <<< v) < 2 ^ n
  refine Nat.or_lt_two_pow hS ?_
  rw [Nat.shiftLeft_eq, Nat.one_mul]
  exact Nat.pow_lt_pow_right (by decide) hv
theorem fw_beqT {a b : Nat} (h : a = b) : Nat.beq a b = true := by subst h; exact Nat.beq_refl a
theorem fw_beqF {a b : Nat} (h : a ≠ b) : Nat.beq a b = false := by
  cases e : Nat.beq a b with
  | false => rfl
  | true => exact absurd (fw_eq e) h
theorem fw_up_lt {X Y : Nat → Nat} {LF e S : Nat} (hS : S < 65536) (hY : Y e < 16) : fw_up X Y LF e S < 65536 := by
  unfold fw_up
  cases Nat.beq (fw_g LF e) 0 with
  | true => exact hS
  | false =>
    cases Nat.beq (fw_b S (X e)) 0 with
    | true => exact hS
    | false => exact fw_on_lt (n := 16) hS hY
theorem fw_rd1_lt {X Y : Nat → Nat} {LF E : Nat} (hY : ∀ e, e < E → Y e < 16) : ∀ (F e S : Nat), e + F = E → S < 65536 → fw_rd1 X Y LF F e S < 65536 := by
  intro F
  induction F with
  | zero => exact fun e S _ hS => hS
  | succ F ih => exact fun e S he hS => ih (Nat.succ e) _ (by omega) (fw_up_lt hS (hY e (by omega)))
theorem fw_or0 (S : Nat) : nI S ||| 0 = nI S := by
  have := fw_or S 0
  rw [show Nat.lor S 0 = S from Nat.or_zero S] at this
  exact this
section
variable {pr so si ed fl qf qs oc : Int32} {a1 a2 a3 a4 a5 a6 a7 a8 a9 a10 a11 a12 a13 a14 a15 a16 a17 a18 a19 : Nat → Int32}
theorem fw_ss_l {post : Int32 → Prop} {J : Int32 → Int32 → Prop} {x3 : Int32} {adj : Nat → List (Nat × Nat)} {TO NX FS E LF : Nat} (hN : fw_Net adj TO NX FS E a4 a6 a7) (h5 : fw_A E a5 LF) :
    ∀ (F e S : Nat), e + F = E → S < 65536 → J (nI (fw_rd1 (fw_tl TO) (fw_hd TO) LF F e S)) (x3 + 1) → wX_spreadSet_13 post J x3 pr so si (nI E) fl qf qs oc a1 a2 a3 a4 a5 a6 a7 a8 a9 a10 a11 a12 a13 a14 a15 a16 a17 a18 a19 (F + 1) (nI S) (nI e) := by
  have hE := hN.1
  intro F
  induction F with
  | zero =>
    intro e S he hS h
    exact br_t (by rw [show e = E by omega]; exact nI_le (Nat.le_refl E) (by omega)) (nm_e h)
  | succ F ih =>
    intro e S he hS h
    have heE : e < E := by omega
    obtain ⟨hx, hv, h4, _⟩ := hN.2.2.1 e heE
    obtain ⟨_, hvx, h4x, _⟩ := hN.2.2.1 _ hx
    have x1 : nI e ^^^ 1 = nI (Nat.xor e 1) := fw_x1 _ (by omega)
    have r5 : a5 (nI e).toNatClampNeg = nI (fw_g LF e) := fw_rd (h5 _ heE) (by omega)
    have r4 : a4 (nI e).toNatClampNeg = nI (fw_g TO e) := fw_rd h4 (by omega)
    have g5 := fw_g_lt LF e
    have ie : vp_in (nI e) 56 := fw_in (by omega)
    refine br_f (nI_ge heE (by omega)) ⟨pk_in _ 56 (by omega) x1, nm_r (e' := nI (fw_g TO (Nat.xor e 1))) (by rw [x1]; exact fw_rd h4x (by omega)) ⟨ie, ?_⟩⟩
    have h : J (nI (fw_rd1 (fw_tl TO) (fw_hd TO) LF F (e + 1) (fw_up (fw_tl TO) (fw_hd TO) LF e S))) (x3 + 1) := h
    by_cases c : fw_g LF e = 0
    · have u : fw_up (fw_tl TO) (fw_hd TO) LF e S = S := by unfold fw_up; rw [fw_beqT c]; rfl
      rw [u] at h
      exact br_t (by rw [r5, c]; decide) (nm_r (fw_or0 S) (nm_r (nI_1 e) (ih _ _ (by omega) hS h)))
    · refine br_f (by rw [r5]; exact nI_nle (by omega) (by omega)) ?_
      rw [fw_sb (show S < 2 ^ 31 by omega) (by omega)]
      have gb := fw_b_2 S (fw_g TO (Nat.xor e 1))
      by_cases d : fw_b S (fw_g TO (Nat.xor e 1)) = 0
      · have u : fw_up (fw_tl TO) (fw_hd TO) LF e S = S := by unfold fw_up fw_tl; rw [fw_beqF c, fw_beqT d]; rfl
        rw [u] at h
        exact br_t (by rw [d]; rfl) (nm_r (fw_or0 S) (nm_r (nI_1 e) (ih _ _ (by omega) hS h)))
      · have u : fw_up (fw_tl TO) (fw_hd TO) LF e S = fw_on S (fw_g TO e) := by unfold fw_up fw_tl; rw [fw_beqF c, fw_beqF d]; rfl
        rw [u] at h
        exact br_f (nI_ne0 (by omega) (by omega)) ⟨ie, nm_r (e' := nI (fw_on S (fw_g TO e))) (by rw [r4, fw_s1 (by omega), fw_or]; rfl) (nm_r (nI_1 e) (ih _ _ (by omega) (fw_on_lt (n := 16) hS hv) h))⟩
theorem fw_cs_l {post : Int32 → Prop} {J : Int32 → Int32 → Prop} {x3 : Int32} {adj : Nat → List (Nat × Nat)} {TO NX FS E LF : Nat} (hN : fw_Net adj TO NX FS E a4 a6 a7) (h5 : fw_A E a5 LF) :
    ∀ (F e S : Nat), e + F = E → S < 65536 → J (nI (fw_rd1 (fw_hd TO) (fw_tl TO) LF F e S)) (x3 + 1) → wX_comingSet_17 post J x3 pr so si (nI E) fl qf qs oc a1 a2 a3 a4 a5 a6 a7 a8 a9 a10 a11 a12 a13 a14 a15 a16 a17 a18 a19 (F + 1) (nI S) (nI e) := by
  have hE := hN.1
  intro F
  induction F with
  | zero =>
    intro e S he hS h
    exact br_t (by rw [show e = E by omega]; exact nI_le (Nat.le_refl E) (by omega)) (nm_e h)
  | succ F ih =>
    intro e S he hS h
    have heE : e < E := by omega
    obtain ⟨hx, hv, h4, _⟩ := hN.2.2.1 e heE
    obtain ⟨_, hvx, h4x, _⟩ := hN.2.2.1 _ hx
    have x1 : nI e ^^^ 1 = nI (Nat.xor e 1) := fw_x1 _ (by omega)
    have r5 : a5 (nI e).toNatClampNeg = nI (fw_g LF e) := fw_rd (h5 _ heE) (by omega)
    have r4 : a4 (nI e).toNatClampNeg = nI (fw_g TO e) := fw_rd h4 (by omega)
    have g5 := fw_g_lt LF e
    have ie : vp_in (nI e) 56 := fw_in (by omega)
    refine br_f (nI_ge heE (by omega)) ⟨pk_in _ 56 (by omega) x1, nm_r (e' := nI (fw_g TO (Nat.xor e 1))) (by rw [x1]; exact fw_rd h4x (by omega)) ⟨ie, ?_⟩⟩
    have h : J (nI (fw_rd1 (fw_hd TO) (fw_tl TO) LF F (e + 1) (fw_up (fw_hd TO) (fw_tl TO) LF e S))) (x3 + 1) := h
    by_cases c : fw_g LF e = 0
    · have u : fw_up (fw_hd TO) (fw_tl TO) LF e S = S := by unfold fw_up; rw [fw_beqT c]; rfl
      rw [u] at h
      exact br_t (by rw [r5, c]; decide) (nm_r (fw_or0 S) (nm_r (nI_1 e) (ih _ _ (by omega) hS h)))
    · refine br_f (by rw [r5]; exact nI_nle (by omega) (by omega)) ⟨ie, ?_⟩
      rw [r4, fw_sb (show S < 2 ^ 31 by omega) (by omega)]
      have gb := fw_b_2 S (fw_g TO e)
      by_cases d : fw_b S (fw_g TO e) = 0
      · have u : fw_up (fw_hd TO) (fw_tl TO) LF e S = S := by unfold fw_up fw_hd; rw [fw_beqF c, fw_beqT d]; rfl
        rw [u] at h
        exact br_t (by rw [d]; rfl) (nm_r (fw_or0 S) (nm_r (nI_1 e) (ih _ _ (by omega) hS h)))
      · have u : fw_up (fw_hd TO) (fw_tl TO) LF e S = fw_on S (fw_g TO (Nat.xor e 1)) := by unfold fw_up fw_hd; rw [fw_beqF c, fw_beqF d]; rfl
        rw [u] at h
        exact br_f (nI_ne0 (by omega) (by omega)) (nm_r (e' := nI (fw_on S (fw_g TO (Nat.xor e 1)))) (by rw [fw_s1 (by omega), fw_or]; rfl) (nm_r (nI_1 e) (ih _ _ (by omega) (fw_on_lt (n := 16) hS hvx) h)))
theorem fw_ss_w {post : Int32 → Prop} {adj : Nat → List (Nat × Nat)} {TO NX FS E LF : Nat} {k : Nat → Bool} (hN : fw_Net adj TO NX FS E a4 a6 a7) (h5 : fw_A E a5 LF) {S : Nat} {x : Int32} (ex : x = nI S) (hS : S < 65536) (hm : fw_rds (fw_tl TO) (fw_hd TO) LF E k 16 S = true)
    (hp : ∀ S', S' < 65536 → k S' = true → post (nI S')) : wpX_spreadSet post (pr, so, si, nI E, fl, qf, qs, oc, a1, a2, a3, a4, a5, a6, a7, a8, a9, a10, a11, a12, a13, a14, a15, a16, a17, a18, a19) x := by
  subst ex
  have lt : ∀ S, S < 65536 → fw_rd1 (fw_tl TO) (fw_hd TO) LF E 0 S < 65536 := fun S hS => fw_rd1_lt (fun e he => (hN.2.2.1 e he).2.1) E 0 S (by omega) hS
  have still : ∀ (F i S : Nat), i + F = 16 → S < 65536 → fw_rd1 (fw_tl TO) (fw_hd TO) LF E 0 S = S → post (nI S) → wX_spreadSet_4 post pr so si (nI E) fl qf qs oc a1 a2 a3 a4 a5 a6 a7 a8 a9 a10 a11 a12 a13 a14 a15 a16 a17 a18 a19 (F + 1) (nI S) (nI i) := by
    intro F
    induction F with
    | zero => exact fun i S hi _ _ h => br_t (by rw [show i = 16 by omega]; decide) h
    | succ F ih =>
      intro i S hi hS e h
      refine br_f (nI_ge (b := 16) (by omega) (by decide)) ⟨_, fw_ss_l hN h5 E 0 S (by omega) hS ?_⟩
      rw [e, nI_1]
      exact ih _ _ (by omega) hS e h
  have go : ∀ (F i S : Nat), i + F = 16 → S < 65536 → fw_rds (fw_tl TO) (fw_hd TO) LF E k F S = true → wX_spreadSet_4 post pr so si (nI E) fl qf qs oc a1 a2 a3 a4 a5 a6 a7 a8 a9 a10 a11 a12 a13 a14 a15 a16 a17 a18 a19 (F + 1) (nI S) (nI i) := by
    intro F
    induction F with
    | zero => exact fun i S hi hS h => br_t (by rw [show i = 16 by omega]; decide) (hp S hS h)
    | succ F ih =>
      intro i S hi hS hm
      refine br_f (nI_ge (b := 16) (by omega) (by decide)) ⟨_, fw_ss_l hN h5 E 0 S (by omega) hS ?_⟩
      rw [nI_1]
      rcases fw_ifE hm with ⟨c, hm⟩ | ⟨c, hm⟩
      · have c := fw_eq c
        rw [c]
        exact still F _ S (by omega) hS c (hp S hS hm)
      · exact ih _ _ (by omega) (lt S hS) hm
  exact ⟨17, go 16 0 S (by omega) hS hm⟩
theorem fw_cs_w {post : Int32 → Prop} {adj : Nat → List (Nat × Nat)} {TO NX FS E LF t : Nat} {k : Nat → Bool} (hN : fw_Net adj TO NX FS E a4 a6 a7) (h5 : fw_A E a5 LF) (ht : t < 16) (hm : fw_rds (fw_hd TO) (fw_tl TO) LF E k 16 (Nat.shiftLeft 1 t) = true)
    (hp : ∀ S', S' < 65536 → k S' = true → post (nI S')) : wpX_comingSet post (pr, so, nI t, nI E, fl, qf, qs, oc, a1, a2, a3, a4, a5, a6, a7, a8, a9, a10, a11, a12, a13, a14, a15, a16, a17, a18, a19) := by
  have lt : ∀ S, S < 65536 → fw_rd1 (fw_hd TO) (fw_tl TO) LF E 0 S < 65536 := fun S hS => fw_rd1_lt (fun e he => (hN.2.2.1 _ (hN.2.2.1 e he).1).2.1) E 0 S (by omega) hS
  have still : ∀ (F i S : Nat), i + F = 16 → S < 65536 → fw_rd1 (fw_hd TO) (fw_tl TO) LF E 0 S = S → post (nI S) → wX_comingSet_9 post pr so (nI t) (nI E) fl qf qs oc a1 a2 a3 a4 a5 a6 a7 a8 a9 a10 a11 a12 a13 a14 a15 a16 a17 a18 a19 (F + 1) (nI S) (nI i) := by
    intro F
    induction F with
    | zero => exact fun i S hi _ _ h => br_t (by rw [show i = 16 by omega]; decide) h
    | succ F ih =>
      intro i S hi hS e h
      refine br_f (nI_ge (b := 16) (by omega) (by decide)) ⟨_, fw_cs_l hN h5 E 0 S (by omega) hS ?_⟩
      rw [e, nI_1]
      exact ih _ _ (by omega) hS e h
  have go : ∀ (F i S : Nat), i + F = 16 → S < 65536 → fw_rds (fw_hd TO) (fw_tl TO) LF E k F S = true → wX_comingSet_9 post pr so (nI t) (nI E) fl qf qs oc a1 a2 a3 a4 a5 a6 a7 a8 a9 a10 a11 a12 a13 a14 a15 a16 a17 a18 a19 (F + 1) (nI S) (nI i) := by
    intro F
    induction F with
    | zero => exact fun i S hi hS h => br_t (by rw [show i = 16 by omega]; decide) (hp S hS h)
    | succ F ih =>
      intro i S hi hS hm
      refine br_f (nI_ge (b := 16) (by omega) (by decide)) ⟨_, fw_cs_l hN h5 E 0 S (by omega) hS ?_⟩
      rw [nI_1]
      rcases fw_ifE hm with ⟨c, hm⟩ | ⟨c, hm⟩
      · have c := fw_eq c
        rw [c]
        exact still F _ S (by omega) hS c (hp S hS hm)
      · exact ih _ _ (by omega) (lt S hS) hm
  refine nm_r (fw_s1 (by omega)) ⟨17, go 16 0 _ (by omega) ?_ hm⟩
  show 1 <<< t < 65536
  rw [Nat.shiftLeft_eq, Nat.one_mul]
  exact Nat.lt_of_lt_of_le (Nat.pow_lt_pow_right (by decide) ht) (by decide)
end
noncomputable def fw_tg (PR FR TT TO LF E s t : Nat) (k : Nat → Bool) (F : Nat) : Nat → Nat → Bool :=
  @Nat.rec (fun _ => Nat → Nat → Bool) (fun _ set => k set)
    (fun _ ih i set => fw_if (Nat.beq (fw_b PR i) 0) (ih (Nat.succ i) set) (fw_rds (fw_tl TO) (fw_hd TO) LF E (fun side => fw_if (Nat.beq (fw_b side (fw_g TT i)) 0) (fw_if (Nat.beq (fw_b side t) 0) (ih (Nat.succ i) (fw_on set i)) (ih (Nat.succ i) set)) (ih (Nat.succ i) set)) 16 (Nat.lor (Nat.shiftLeft 1 s) (Nat.shiftLeft 1 (fw_g FR i))))) F
noncomputable def fw_wd (PR FR TT near far : Nat) (k : Nat → Bool) (F : Nat) : Nat → Nat → Bool :=
  @Nat.rec (fun _ => Nat → Nat → Bool) (fun _ set => k set)
    (fun _ ih i set => fw_if (Nat.beq (fw_b PR i) 0) (ih (Nat.succ i) set) (fw_if (Nat.beq (fw_b near (fw_g FR i)) 0) (ih (Nat.succ i) set) (fw_if (Nat.beq (fw_b far (fw_g TT i)) 0) (ih (Nat.succ i) set) (ih (Nat.succ i) (fw_on set i))))) F
noncomputable def fw_fe (PR FR TT RM side : Nat) (k : Nat → Bool) (F : Nat) : Nat → Nat → Bool :=
  @Nat.rec (fun _ => Nat → Nat → Bool) (fun _ n => k n)
    (fun _ ih i n => fw_if (Nat.beq (fw_b PR i) 0) (ih (Nat.succ i) n) (fw_if (Nat.beq (fw_g RM i) 0) (ih (Nat.succ i) n) (fw_if (Nat.beq (fw_b side (fw_g FR i)) 0) (ih (Nat.succ i) n) (fw_if (Nat.beq (fw_b side (fw_g TT i)) 0) (ih (Nat.succ i) (Nat.succ n)) (ih (Nat.succ i) n))))) F
theorem fw_shl_lt {v : Nat} (hv : v < 16) : Nat.shiftLeft 1 v < 65536 := by
  show 1 <<< v < 65536
  rw [Nat.shiftLeft_eq, Nat.one_mul]
  exact Nat.lt_of_lt_of_le (Nat.pow_lt_pow_right (by decide) hv) (by decide)
section
variable {pr so si ed fl qf qs oc : Int32} {a1 a2 a3 a4 a5 a6 a7 a8 a9 a10 a11 a12 a13 a14 a15 a16 a17 a18 a19 : Nat → Int32}
theorem fw_tg_l {post : Int32 → St2 → Prop} {adj : Nat → List (Nat × Nat)} {PR FR TT RM TO NX FS E LF s t : Nat} {k : Nat → Bool} (hA : fw_Arcs PR FR TT RM pr a1 a2 a3) (hN : fw_Net adj TO NX FS E a4 a6 a7) (h5 : fw_A E a5 LF) (hs : s < 8) (ht : t < 8)
    (hp : ∀ set, k set = true → post (nI set) (pr, so, si, nI E, fl, qf, qs, oc, a1, a2, a3, a4, a5, a6, a7, a8, a9, a10, a11, a12, a13, a14, a15, a16, a17, a18, a19)) :
    ∀ (F i set : Nat), i + F = 20 → fw_tg PR FR TT TO LF E s t k F i set = true → wX_tight_25 post (nI s) (nI t) pr so si (nI E) fl qf qs oc a1 a2 a3 a4 a5 a6 a7 a8 a9 a10 a11 a12 a13 a14 a15 a16 a17 a18 a19 (F + 1) (nI set) (nI i) := by
  obtain ⟨hP, hpr, hA⟩ := hA
  intro F
  induction F with
  | zero => exact fun i set hi hm => br_t (by rw [show i = 20 by omega]; decide) (hp set hm)
  | succ F ih =>
    intro i set hi hm
    refine br_f (nI_ge (b := 20) (by omega) (by decide)) (fw_has_w hpr (by omega) (by omega) (fun c => ?_) (fun c => ?_))
    · rcases fw_ifE hm with ⟨c', hm⟩ | ⟨c', hm⟩
      · exact br_t rfl (nm_r (nI_1 i) (ih _ _ (by omega) hm))
      · exact absurd c (fw_ne c')
    · rcases fw_ifE hm with ⟨c', hm⟩ | ⟨c', hm⟩
      · exact absurd (fw_eq c') c
      obtain ⟨hf8, h1, ht8, h2, h3⟩ := hA i (by omega) c
      have ii : vp_in (nI i) 20 := fw_in (by omega)
      have r1 : a1 (nI i).toNatClampNeg = nI (fw_g FR i) := fw_rd h1 (by omega)
      have r2 : a2 (nI i).toNatClampNeg = nI (fw_g TT i) := fw_rd h2 (by omega)
      have no : fw_tg PR FR TT TO LF E s t k F (Nat.succ i) set = true → wX_tight_88 post (wX_tight_25 post (nI s) (nI t) pr so si (nI E) fl qf qs oc a1 a2 a3 a4 a5 a6 a7 a8 a9 a10 a11 a12 a13 a14 a15 a16 a17 a18 a19 (F + 1)) (nI s) (nI t) (nI set) (nI i) pr so si (nI E) fl qf qs oc a1 a2 a3 a4 a5 a6 a7 a8 a9 a10 a11 a12 a13 a14 a15 a16 a17 a18 a19 :=
        fun hm => br_t rfl (nm_r (fw_or0 set) (nm_r (nI_1 i) (ih _ _ (by omega) hm)))
      refine br_f (by decide) ⟨ii, fw_ss_w hN h5 (S := Nat.lor (Nat.shiftLeft 1 s) (Nat.shiftLeft 1 (fw_g FR i))) ?_ ?_ hm (fun side hside hm => ⟨ii, ?_⟩)⟩
      · rw [r1, fw_s1 (by omega), fw_s1 (by omega), fw_or]
      · exact Nat.or_lt_two_pow (n := 16) (fw_shl_lt (by omega)) (fw_shl_lt (by omega))
      · rw [r2, fw_sb (show side < 2 ^ 31 by omega) (by omega), fw_sb (show side < 2 ^ 31 by omega) (by omega)]
        have g1 := fw_b_2 side (fw_g TT i)
        have g2 := fw_b_2 side t
        rcases fw_ifE hm with ⟨c1, hm⟩ | ⟨c1, hm⟩
        · have c1 := fw_eq c1
          refine br_t (by rw [c1]; rfl) ?_
          rcases fw_ifE hm with ⟨c2, hm⟩ | ⟨c2, hm⟩
          · have c2 := fw_eq c2
            exact br_t (by rw [c2]; rfl) (br_f (by decide) (nm_r (e' := nI (fw_on set i)) (by rw [fw_s1 (by omega), fw_or]; rfl) (nm_r (nI_1 i) (ih _ _ (by omega) hm))))
          · have c2 := fw_ne c2
            exact br_f (nI_ne0 (by omega) (by omega)) (no hm)
        · have c1 := fw_ne c1
          exact br_f (nI_ne0 (by omega) (by omega)) (no hm)
theorem fw_wd_l {post : Int32 → St2 → Prop} {PR FR TT RM near far : Nat} {k : Nat → Bool} (hA : fw_Arcs PR FR TT RM pr a1 a2 a3) (hn : near < 65536) (hf : far < 65536)
    (hp : ∀ set, k set = true → post (nI set) (pr, so, si, ed, fl, qf, qs, oc, a1, a2, a3, a4, a5, a6, a7, a8, a9, a10, a11, a12, a13, a14, a15, a16, a17, a18, a19)) :
    ∀ (F i set : Nat), i + F = 20 → fw_wd PR FR TT near far k F i set = true → wX_widening_39 post (nI near) (nI far) pr so si ed fl qf qs oc a1 a2 a3 a4 a5 a6 a7 a8 a9 a10 a11 a12 a13 a14 a15 a16 a17 a18 a19 (F + 1) (nI set) (nI i) := by
  obtain ⟨hP, hpr, hA⟩ := hA
  intro F
  induction F with
  | zero => exact fun i set hi hm => br_t (by rw [show i = 20 by omega]; decide) (hp set hm)
  | succ F ih =>
    intro i set hi hm
    have no : fw_wd PR FR TT near far k F (Nat.succ i) set = true → wX_widening_88 post (wX_widening_39 post (nI near) (nI far) pr so si ed fl qf qs oc a1 a2 a3 a4 a5 a6 a7 a8 a9 a10 a11 a12 a13 a14 a15 a16 a17 a18 a19 (F + 1)) (nI near) (nI far) (nI set) (nI i) pr so si ed fl qf qs oc a1 a2 a3 a4 a5 a6 a7 a8 a9 a10 a11 a12 a13 a14 a15 a16 a17 a18 a19 :=
      fun hm => br_t rfl (nm_r (fw_or0 set) (nm_r (nI_1 i) (ih _ _ (by omega) hm)))
    refine br_f (nI_ge (b := 20) (by omega) (by decide)) (fw_has_w hpr (by omega) (by omega) (fun c => ?_) (fun c => ?_))
    · rcases fw_ifE hm with ⟨c', hm⟩ | ⟨c', hm⟩
      · exact br_t rfl (no hm)
      · exact absurd c (fw_ne c')
    · rcases fw_ifE hm with ⟨c', hm⟩ | ⟨c', hm⟩
      · exact absurd (fw_eq c') c
      obtain ⟨hf8, h1, ht8, h2, h3⟩ := hA i (by omega) c
      have ii : vp_in (nI i) 20 := fw_in (by omega)
      have r1 : a1 (nI i).toNatClampNeg = nI (fw_g FR i) := fw_rd h1 (by omega)
      have r2 : a2 (nI i).toNatClampNeg = nI (fw_g TT i) := fw_rd h2 (by omega)
      have g1 := fw_b_2 near (fw_g FR i)
      have g2 := fw_b_2 far (fw_g TT i)
      refine br_f (by decide) ⟨ii, ?_⟩
      rw [r1, r2, fw_sb (show near < 2 ^ 31 by omega) (by omega), fw_sb (show far < 2 ^ 31 by omega) (by omega)]
      rcases fw_ifE hm with ⟨c1, hm⟩ | ⟨c1, hm⟩
      · exact br_t (by rw [fw_eq c1]; rfl) (no hm)
      · have c1 := fw_ne c1
        refine br_f (nI_ne0 (by omega) (by omega)) ⟨ii, ?_⟩
        rcases fw_ifE hm with ⟨c2, hm⟩ | ⟨c2, hm⟩
        · exact br_t (by rw [fw_eq c2]; rfl) (no hm)
        · have c2 := fw_ne c2
          exact br_f (nI_ne0 (by omega) (by omega)) (br_f (by decide) (nm_r (e' := nI (fw_on set i)) (by rw [fw_s1 (by omega), fw_or]; rfl) (nm_r (nI_1 i) (ih _ _ (by omega) hm))))
theorem fw_fe_l {post : Int32 → St2 → Prop} {PR FR TT RM side : Nat} {k : Nat → Bool} (hA : fw_Arcs PR FR TT RM pr a1 a2 a3) (hn : side < 65536)
    (hp : ∀ n, k n = true → post (nI n) (pr, so, si, ed, fl, qf, qs, oc, a1, a2, a3, a4, a5, a6, a7, a8, a9, a10, a11, a12, a13, a14, a15, a16, a17, a18, a19)) :
    ∀ (F i n : Nat), i + F = 20 → fw_fe PR FR TT RM side k F i n = true → wX_fewest_33 post (nI side) pr so si ed fl qf qs oc a1 a2 a3 a4 a5 a6 a7 a8 a9 a10 a11 a12 a13 a14 a15 a16 a17 a18 a19 (F + 1) (nI n) (nI i) := by
  obtain ⟨hP, hpr, hA⟩ := hA
  intro F
  induction F with
  | zero => exact fun i set hi hm => br_t (by rw [show i = 20 by omega]; decide) (hp set hm)
  | succ F ih =>
    intro i n hi hm
    have no : fw_fe PR FR TT RM side k F (Nat.succ i) n = true → wX_fewest_91 post (wX_fewest_33 post (nI side) pr so si ed fl qf qs oc a1 a2 a3 a4 a5 a6 a7 a8 a9 a10 a11 a12 a13 a14 a15 a16 a17 a18 a19 (F + 1)) (nI side) (nI n) (nI i) pr so si ed fl qf qs oc a1 a2 a3 a4 a5 a6 a7 a8 a9 a10 a11 a12 a13 a14 a15 a16 a17 a18 a19 :=
      fun hm => br_t rfl (nm_r (nI_add n 0) (nm_r (nI_1 i) (ih _ _ (by omega) hm)))
    refine br_f (nI_ge (b := 20) (by omega) (by decide)) (fw_has_w hpr (by omega) (by omega) (fun c => ?_) (fun c => ?_))
    · rcases fw_ifE hm with ⟨c', hm⟩ | ⟨c', hm⟩
      · exact br_t rfl (no hm)
      · exact absurd c (fw_ne c')
    · rcases fw_ifE hm with ⟨c', hm⟩ | ⟨c', hm⟩
      · exact absurd (fw_eq c') c
      obtain ⟨hf8, h1, ht8, h2, h3⟩ := hA i (by omega) c
      have ii : vp_in (nI i) 20 := fw_in (by omega)
      have r1 : a1 (nI i).toNatClampNeg = nI (fw_g FR i) := fw_rd h1 (by omega)
      have r2 : a2 (nI i).toNatClampNeg = nI (fw_g TT i) := fw_rd h2 (by omega)
      have r3 : a3 (nI i).toNatClampNeg = nI (fw_g RM i) := fw_rd h3 (by omega)
      have g1 := fw_b_2 side (fw_g FR i)
      have g2 := fw_b_2 side (fw_g TT i)
      have g3 := fw_g_lt RM i
      refine br_f (by decide) ⟨ii, ?_⟩
      rw [r1, r2, r3, fw_sb (show side < 2 ^ 31 by omega) (by omega), fw_sb (show side < 2 ^ 31 by omega) (by omega)]
      rcases fw_ifE hm with ⟨c0, hm⟩ | ⟨c0, hm⟩
      · exact br_t (by rw [fw_eq c0]; decide) (no hm)
      have c0 := fw_ne c0
      refine br_f (nI_nle (by omega) (by omega)) ⟨ii, ?_⟩
      rcases fw_ifE hm with ⟨c1, hm⟩ | ⟨c1, hm⟩
      · exact br_t (by rw [fw_eq c1]; rfl) (no hm)
      · have c1 := fw_ne c1
        refine br_f (nI_ne0 (by omega) (by omega)) ⟨ii, ?_⟩
        rcases fw_ifE hm with ⟨c2, hm⟩ | ⟨c2, hm⟩
        · exact br_t (by rw [fw_eq c2]; rfl) (br_f (by decide) (nm_r (nI_1 n) (nm_r (nI_1 i) (ih _ _ (by omega) hm))))
        · have c2 := fw_ne c2
          exact br_f (nI_ne0 (by omega) (by omega)) (no hm)
end
end
section
/-! the class's calls, as the law makes them: what they answer; the arcs stay as they are -/
def fw_Lay (PR FR TT RM kind much s t : Nat) (adj : Nat → List (Nat × Nat)) (TO NX FS E LF : Nat) : Prop := fw_lay PR FR TT RM kind s t much (fw_is TO NX FS LF E) = true ∧ fw_nc adj TO NX FS E = true
section
variable {pr so si ed fl qf qs oc : Int32} {a1 a2 a3 a4 a5 a6 a7 a8 a9 a10 a11 a12 a13 a14 a15 a16 a17 a18 a19 : Nat → Int32}
theorem fw_bestN {post : Int32 → St2 → Prop} {adj : Nat → List (Nat × Nat)} {PR FR TT RM kind TO NX FS E s t g LF v : Nat} {x y z w : Int32} (ex : x = nI g) (ey : y = nI kind) (ez : z = nI s) (ew : w = nI t) (hA : fw_Arcs PR FR TT RM pr a1 a2 a3) (hk : kind < 4) (hs : s < 8) (ht : t < 8) (hst : t ≠ s) (hg : g < 7)
    (hl : fw_Lay PR FR TT RM kind 1 s t adj TO NX FS E LF) (hm : fw_solve adj TO NX FS E s t g LF (fun _ n => Nat.beq n v) = true)
    (hp : ∀ (so' si' ed' fl' qf' qs' oc' : Int32) (a4' a5' a6' a7' a8' a9' a10' a11' a12' a13' a14' a15' a16' a17' a18' a19' : Nat → Int32), post (nI v) (pr, so', si', ed', fl', qf', qs', oc', a1, a2, a3, a4', a5', a6', a7', a8', a9', a10', a11', a12', a13', a14', a15', a16', a17', a18', a19')) : wpX_best post (pr, so, si, ed, fl, qf, qs, oc, a1, a2, a3, a4, a5, a6, a7, a8, a9, a10, a11, a12, a13, a14, a15, a16, a17, a18, a19) x y z w := by
  subst ex
  subst ey
  subst ez
  subst ew
  refine fw_best_w hA hk hs ht hst hg hl.1 hl.2 hm (fun qf' qs' oc' a4' a5' a6' a7' a8' a9' a10' a11' a12' a13' a14' a15' a16' a17' a18' a19' LF' n' _ _ e => ?_)
  have e : n' = v := fw_eq e
  subst e
  exact hp _ _ _ _ _ _ _ _ _ _ _ _ _ _ _ _ _ _ _ _ _ _ _
theorem fw_value_c {post : Int32 → St2 → Prop} {adj : Nat → List (Nat × Nat)} {PR FR TT RM TO NX FS E s t g LF v : Nat} {x y z : Int32} (ex : x = nI g) (ey : y = nI s) (ez : z = nI t) (hA : fw_Arcs PR FR TT RM pr a1 a2 a3) (hs : s < 8) (ht : t < 8) (hst : t ≠ s) (hg : g < 7)
    (hl : fw_Lay PR FR TT RM 0 1 s t adj TO NX FS E LF) (hm : fw_solve adj TO NX FS E s t g LF (fun _ n => Nat.beq n v) = true)
    (hp : ∀ (so' si' ed' fl' qf' qs' oc' : Int32) (a4' a5' a6' a7' a8' a9' a10' a11' a12' a13' a14' a15' a16' a17' a18' a19' : Nat → Int32), post (nI v) (pr, so', si', ed', fl', qf', qs', oc', a1, a2, a3, a4', a5', a6', a7', a8', a9', a10', a11', a12', a13', a14', a15', a16', a17', a18', a19')) : wpX_value post (pr, so, si, ed, fl, qf, qs, oc, a1, a2, a3, a4, a5, a6, a7, a8, a9, a10, a11, a12, a13, a14, a15, a16, a17, a18, a19) x y z := by
  subst ex
  subst ey
  subst ez
  unfold wpX_value
  exact fw_pair1 hs ht hst (br_f (by decide) (fw_eng1 hg (br_f (by decide) (fw_bestN (kind := 0) rfl rfl rfl rfl hA (by omega) hs ht hst hg hl hm (fun so' si' ed' fl' qf' qs' oc' a4' a5' a6' a7' a8' a9' a10' a11' a12' a13' a14' a15' a16' a17' a18' a19' => hp so' si' ed' fl' qf' qs' oc' a4' a5' a6' a7' a8' a9' a10' a11' a12' a13' a14' a15' a16' a17' a18' a19')))))
theorem fw_agree_c {post : Int32 → St2 → Prop} {adj : Nat → List (Nat × Nat)} {PR FR TT RM TO NX FS E s t g h LF v : Nat} {x y z w : Int32} (ex : x = nI g) (ey : y = nI h) (ez : z = nI s) (ew : w = nI t) (hA : fw_Arcs PR FR TT RM pr a1 a2 a3) (hs : s < 8) (ht : t < 8) (hst : t ≠ s) (hg : g < 7) (hh : h < 7)
    (hl : fw_Lay PR FR TT RM 0 1 s t adj TO NX FS E LF) (hm : fw_solve adj TO NX FS E s t g LF (fun _ n => Nat.beq n v) = true) (hm2 : fw_solve adj TO NX FS E s t h LF (fun _ n => Nat.beq n v) = true)
    (hp : ∀ (so' si' ed' fl' qf' qs' oc' : Int32) (a4' a5' a6' a7' a8' a9' a10' a11' a12' a13' a14' a15' a16' a17' a18' a19' : Nat → Int32), post 1 (pr, so', si', ed', fl', qf', qs', oc', a1, a2, a3, a4', a5', a6', a7', a8', a9', a10', a11', a12', a13', a14', a15', a16', a17', a18', a19')) : wpX_agree post (pr, so, si, ed, fl, qf, qs, oc, a1, a2, a3, a4, a5, a6, a7, a8, a9, a10, a11, a12, a13, a14, a15, a16, a17, a18, a19) x y z w := by
  subst ex
  subst ey
  subst ez
  subst ew
  unfold wpX_agree
  exact fw_pair1 hs ht hst (br_f (by decide) (fw_eng1 hg (br_f (by decide) (fw_eng1 hh (br_f (by decide) (fw_bestN (kind := 0) rfl rfl rfl rfl hA (by omega) hs ht hst hg hl hm (fun so1 si1 ed1 fl1 qf1 qs1 oc1 b4 b5 b6 b7 b8 b9 b10 b11 b12 b13 b14 b15 b16 b17 b18 b19 => fw_bestN (kind := 0) rfl rfl rfl rfl hA (by omega) hs ht hst hh hl hm2 (fun so' si' ed' fl' qf' qs' oc' a4' a5' a6' a7' a8' a9' a10' a11' a12' a13' a14' a15' a16' a17' a18' a19' => br_t rfl (hp so' si' ed' fl' qf' qs' oc' a4' a5' a6' a7' a8' a9' a10' a11' a12' a13' a14' a15' a16' a17' a18' a19')))))))))
theorem fw_least_c {post : Int32 → St2 → Prop} {adj : Nat → List (Nat × Nat)} {PR FR TT RM TO NX FS E s t LF v : Nat} {y z : Int32} (ey : y = nI s) (ez : z = nI t) (hA : fw_Arcs PR FR TT RM pr a1 a2 a3) (hs : s < 8) (ht : t < 8) (hst : t ≠ s)
    (hl : fw_Lay PR FR TT RM 0 1 s t adj TO NX FS E LF) (hm : fw_solve adj TO NX FS E s t 1 LF (fun LF' _ => fw_rds (fw_tl TO) (fw_hd TO) LF' E (fun S => Nat.beq S v) 16 (Nat.shiftLeft 1 s)) = true)
    (hp : ∀ (so' si' ed' fl' qf' qs' oc' : Int32) (a4' a5' a6' a7' a8' a9' a10' a11' a12' a13' a14' a15' a16' a17' a18' a19' : Nat → Int32), post (nI v) (pr, so', si', ed', fl', qf', qs', oc', a1, a2, a3, a4', a5', a6', a7', a8', a9', a10', a11', a12', a13', a14', a15', a16', a17', a18', a19')) : wpX_least post (pr, so, si, ed, fl, qf, qs, oc, a1, a2, a3, a4, a5, a6, a7, a8, a9, a10, a11, a12, a13, a14, a15, a16, a17, a18, a19) y z := by
  subst ey
  subst ez
  unfold wpX_least
  refine fw_pair1 hs ht hst (br_f (by decide) (fw_best_w (kind := 0) (g := 1) hA (by omega) hs ht hst (by omega) hl.1 hl.2 hm (fun qf' qs' oc' a4' a5' a6' a7' a8' a9' a10' a11' a12' a13' a14' a15' a16' a17' a18' a19' LF' n' hN h5 hm => fw_ss_w hN h5 (fw_s1 (by omega)) (fw_shl_lt (by omega)) hm (fun S _ e => ?_))))
  have e : S = v := fw_eq e
  subst e
  exact hp _ _ _ _ _ _ _ _ _ _ _ _ _ _ _ _ _ _ _ _ _ _ _
theorem fw_most_c {post : Int32 → St2 → Prop} {adj : Nat → List (Nat × Nat)} {PR FR TT RM TO NX FS E s t LF v : Nat} {y z : Int32} (ey : y = nI s) (ez : z = nI t) (hA : fw_Arcs PR FR TT RM pr a1 a2 a3) (hs : s < 8) (ht : t < 8) (hst : t ≠ s)
    (hl : fw_Lay PR FR TT RM 0 1 s t adj TO NX FS E LF) (hm : fw_solve adj TO NX FS E s t 3 LF (fun LF' _ => fw_rds (fw_hd TO) (fw_tl TO) LF' E (fun S => Nat.beq S v) 16 (Nat.shiftLeft 1 t)) = true)
    (hp : ∀ (so' si' ed' fl' qf' qs' oc' : Int32) (a4' a5' a6' a7' a8' a9' a10' a11' a12' a13' a14' a15' a16' a17' a18' a19' : Nat → Int32), post (255 &&& (nI v ^^^ (-1))) (pr, so', si', ed', fl', qf', qs', oc', a1, a2, a3, a4', a5', a6', a7', a8', a9', a10', a11', a12', a13', a14', a15', a16', a17', a18', a19')) : wpX_most post (pr, so, si, ed, fl, qf, qs, oc, a1, a2, a3, a4, a5, a6, a7, a8, a9, a10, a11, a12, a13, a14, a15, a16, a17, a18, a19) y z := by
  subst ey
  subst ez
  unfold wpX_most
  refine fw_pair1 hs ht hst (br_f (by decide) (fw_best_w (kind := 0) (g := 3) hA (by omega) hs ht hst (by omega) hl.1 hl.2 hm (fun qf' qs' oc' a4' a5' a6' a7' a8' a9' a10' a11' a12' a13' a14' a15' a16' a17' a18' a19' LF' n' hN h5 hm => fw_cs_w hN h5 (by omega) hm (fun S _ e => ?_))))
  have e : S = v := fw_eq e
  subst e
  exact hp _ _ _ _ _ _ _ _ _ _ _ _ _ _ _ _ _ _ _ _ _ _ _
theorem fw_tight_c {post : Int32 → St2 → Prop} {adj : Nat → List (Nat × Nat)} {PR FR TT RM TO NX FS E s t LF v : Nat} {y z : Int32} (ey : y = nI s) (ez : z = nI t) (hA : fw_Arcs PR FR TT RM pr a1 a2 a3) (hs : s < 8) (ht : t < 8) (hst : t ≠ s)
    (hl : fw_Lay PR FR TT RM 0 1 s t adj TO NX FS E LF) (hm : fw_solve adj TO NX FS E s t 6 LF (fun LF' _ => fw_tg PR FR TT TO LF' E s t (fun S => Nat.beq S v) 20 0 0) = true)
    (hp : ∀ (so' si' ed' fl' qf' qs' oc' : Int32) (a4' a5' a6' a7' a8' a9' a10' a11' a12' a13' a14' a15' a16' a17' a18' a19' : Nat → Int32), post (nI v) (pr, so', si', ed', fl', qf', qs', oc', a1, a2, a3, a4', a5', a6', a7', a8', a9', a10', a11', a12', a13', a14', a15', a16', a17', a18', a19')) : wpX_tight post (pr, so, si, ed, fl, qf, qs, oc, a1, a2, a3, a4, a5, a6, a7, a8, a9, a10, a11, a12, a13, a14, a15, a16, a17, a18, a19) y z := by
  subst ey
  subst ez
  unfold wpX_tight
  refine fw_pair1 hs ht hst (br_f (by decide) (fw_best_w (kind := 0) (g := 6) hA (by omega) hs ht hst (by omega) hl.1 hl.2 hm (fun qf' qs' oc' a4' a5' a6' a7' a8' a9' a10' a11' a12' a13' a14' a15' a16' a17' a18' a19' LF' n' hN h5 hm => ⟨21, fw_tg_l hA hN h5 hs ht (fun S e => ?_) 20 0 0 (by omega) hm⟩)))
  have e : S = v := fw_eq e
  subst e
  exact hp _ _ _ _ _ _ _ _ _ _ _ _ _ _ _ _ _ _ _ _ _ _ _
theorem fw_widening_c {post : Int32 → St2 → Prop} {adj : Nat → List (Nat × Nat)} {PR FR TT RM TO NX FS E s t LF v : Nat} {y z : Int32} (ey : y = nI s) (ez : z = nI t) (hA : fw_Arcs PR FR TT RM pr a1 a2 a3) (hs : s < 8) (ht : t < 8) (hst : t ≠ s)
    (hl : fw_Lay PR FR TT RM 0 1 s t adj TO NX FS E LF) (hm : fw_solve adj TO NX FS E s t 5 LF (fun LF' _ => fw_rds (fw_tl TO) (fw_hd TO) LF' E (fun near => fw_rds (fw_hd TO) (fw_tl TO) LF' E (fun far => fw_wd PR FR TT near far (fun S => Nat.beq S v) 20 0 0) 16 (Nat.shiftLeft 1 t)) 16 (Nat.shiftLeft 1 s)) = true)
    (hp : ∀ (so' si' ed' fl' qf' qs' oc' : Int32) (a4' a5' a6' a7' a8' a9' a10' a11' a12' a13' a14' a15' a16' a17' a18' a19' : Nat → Int32), post (nI v) (pr, so', si', ed', fl', qf', qs', oc', a1, a2, a3, a4', a5', a6', a7', a8', a9', a10', a11', a12', a13', a14', a15', a16', a17', a18', a19')) : wpX_widening post (pr, so, si, ed, fl, qf, qs, oc, a1, a2, a3, a4, a5, a6, a7, a8, a9, a10, a11, a12, a13, a14, a15, a16, a17, a18, a19) y z := by
  subst ey
  subst ez
  unfold wpX_widening
  refine fw_pair1 hs ht hst (br_f (by decide) (fw_best_w (kind := 0) (g := 5) hA (by omega) hs ht hst (by omega) hl.1 hl.2 hm (fun qf' qs' oc' a4' a5' a6' a7' a8' a9' a10' a11' a12' a13' a14' a15' a16' a17' a18' a19' LF' n' hN h5 hm => fw_ss_w hN h5 (fw_s1 (by omega)) (fw_shl_lt (by omega)) hm (fun near hnear hm => fw_cs_w hN h5 (by omega) hm (fun far hfar hm => ⟨21, fw_wd_l hA hnear hfar (fun S e => ?_) 20 0 0 (by omega) hm⟩)))))
  have e : S = v := fw_eq e
  subst e
  exact hp _ _ _ _ _ _ _ _ _ _ _ _ _ _ _ _ _ _ _ _ _ _ _
theorem fw_fewest_c {post : Int32 → St2 → Prop} {adj : Nat → List (Nat × Nat)} {PR FR TT RM TO NX FS E s t LF v : Nat} {y z : Int32} (ey : y = nI s) (ez : z = nI t) (hA : fw_Arcs PR FR TT RM pr a1 a2 a3) (hs : s < 8) (ht : t < 8) (hst : t ≠ s)
    (hl : fw_Lay PR FR TT RM 1 1 s t adj TO NX FS E LF) (hm : fw_solve adj TO NX FS E s t 2 LF (fun LF' _ => fw_rds (fw_tl TO) (fw_hd TO) LF' E (fun side => fw_fe PR FR TT RM side (fun S => Nat.beq S v) 20 0 0) 16 (Nat.shiftLeft 1 s)) = true)
    (hp : ∀ (so' si' ed' fl' qf' qs' oc' : Int32) (a4' a5' a6' a7' a8' a9' a10' a11' a12' a13' a14' a15' a16' a17' a18' a19' : Nat → Int32), post (nI v) (pr, so', si', ed', fl', qf', qs', oc', a1, a2, a3, a4', a5', a6', a7', a8', a9', a10', a11', a12', a13', a14', a15', a16', a17', a18', a19')) : wpX_fewest post (pr, so, si, ed, fl, qf, qs, oc, a1, a2, a3, a4, a5, a6, a7, a8, a9, a10, a11, a12, a13, a14, a15, a16, a17, a18, a19) y z := by
  subst ey
  subst ez
  unfold wpX_fewest
  refine fw_pair1 hs ht hst (br_f (by decide) (fw_best_w (kind := 1) (g := 2) hA (by omega) hs ht hst (by omega) hl.1 hl.2 hm (fun qf' qs' oc' a4' a5' a6' a7' a8' a9' a10' a11' a12' a13' a14' a15' a16' a17' a18' a19' LF' n' hN h5 hm => fw_ss_w hN h5 (fw_s1 (by omega)) (fw_shl_lt (by omega)) hm (fun side hside hm => ⟨21, fw_fe_l hA hside (fun S e => ?_) 20 0 0 (by omega) hm⟩))))
  have e : S = v := fw_eq e
  subst e
  exact hp _ _ _ _ _ _ _ _ _ _ _ _ _ _ _ _ _ _ _ _ _ _ _
theorem fw_apart_c {post : Int32 → St2 → Prop} {adj : Nat → List (Nat × Nat)} {PR FR TT RM TO NX FS E s t LF v : Nat} {y z : Int32} (ey : y = nI s) (ez : z = nI t) (hA : fw_Arcs PR FR TT RM pr a1 a2 a3) (hs : s < 8) (ht : t < 8) (hst : t ≠ s)
    (hl : fw_Lay PR FR TT RM 1 1 s t adj TO NX FS E LF) (hm : fw_solve adj TO NX FS E s t 1 LF (fun _ n => Nat.beq n v) = true)
    (hp : ∀ (so' si' ed' fl' qf' qs' oc' : Int32) (a4' a5' a6' a7' a8' a9' a10' a11' a12' a13' a14' a15' a16' a17' a18' a19' : Nat → Int32), post (nI v) (pr, so', si', ed', fl', qf', qs', oc', a1, a2, a3, a4', a5', a6', a7', a8', a9', a10', a11', a12', a13', a14', a15', a16', a17', a18', a19')) : wpX_apart post (pr, so, si, ed, fl, qf, qs, oc, a1, a2, a3, a4, a5, a6, a7, a8, a9, a10, a11, a12, a13, a14, a15, a16, a17, a18, a19) y z := by
  subst ey
  subst ez
  unfold wpX_apart
  exact fw_pair1 hs ht hst (br_f (by decide) (fw_bestN (kind := 1) (g := 1) rfl rfl rfl rfl hA (by omega) hs ht hst (by omega) hl hm (fun so' si' ed' fl' qf' qs' oc' a4' a5' a6' a7' a8' a9' a10' a11' a12' a13' a14' a15' a16' a17' a18' a19' => hp so' si' ed' fl' qf' qs' oc' a4' a5' a6' a7' a8' a9' a10' a11' a12' a13' a14' a15' a16' a17' a18' a19')))
theorem fw_separate_c {post : Int32 → St2 → Prop} {adj : Nat → List (Nat × Nat)} {PR FR TT RM TO NX FS E s t LF v : Nat} {y z : Int32} (ey : y = nI s) (ez : z = nI t) (hA : fw_Arcs PR FR TT RM pr a1 a2 a3) (hs : s < 8) (ht : t < 8) (hst : t ≠ s)
    (hl : fw_Lay PR FR TT RM 2 1 s t adj TO NX FS E LF) (hm : fw_solve adj TO NX FS E s t 6 LF (fun _ n => Nat.beq n v) = true)
    (hp : ∀ (so' si' ed' fl' qf' qs' oc' : Int32) (a4' a5' a6' a7' a8' a9' a10' a11' a12' a13' a14' a15' a16' a17' a18' a19' : Nat → Int32), post (nI v) (pr, so', si', ed', fl', qf', qs', oc', a1, a2, a3, a4', a5', a6', a7', a8', a9', a10', a11', a12', a13', a14', a15', a16', a17', a18', a19')) : wpX_separate post (pr, so, si, ed, fl, qf, qs, oc, a1, a2, a3, a4, a5, a6, a7, a8, a9, a10, a11, a12, a13, a14, a15, a16, a17, a18, a19) y z := by
  subst ey
  subst ez
  unfold wpX_separate
  exact fw_pair1 hs ht hst (br_f (by decide) (fw_bestN (kind := 2) (g := 6) rfl rfl rfl rfl hA (by omega) hs ht hst (by omega) hl hm (fun so' si' ed' fl' qf' qs' oc' a4' a5' a6' a7' a8' a9' a10' a11' a12' a13' a14' a15' a16' a17' a18' a19' => hp so' si' ed' fl' qf' qs' oc' a4' a5' a6' a7' a8' a9' a10' a11' a12' a13' a14' a15' a16' a17' a18' a19')))
theorem fw_throttled_c {post : Int32 → St2 → Prop} {adj : Nat → List (Nat × Nat)} {PR FR TT RM TO NX FS E s t much LF v : Nat} {y z w : Int32} (ey : y = nI s) (ez : z = nI t) (ew : w = nI much) (hA : fw_Arcs PR FR TT RM pr a1 a2 a3) (hs : s < 8) (ht : t < 8) (hst : t ≠ s) (hmu : much ≤ 99)
    (hl : fw_Lay PR FR TT RM 3 much s t adj TO NX FS E LF) (hm : fw_solve adj TO NX FS E s t 3 LF (fun _ n => Nat.beq n v) = true)
    (hp : ∀ (so' si' ed' fl' qf' qs' oc' : Int32) (a4' a5' a6' a7' a8' a9' a10' a11' a12' a13' a14' a15' a16' a17' a18' a19' : Nat → Int32), post (nI v) (pr, so', si', ed', fl', qf', qs', oc', a1, a2, a3, a4', a5', a6', a7', a8', a9', a10', a11', a12', a13', a14', a15', a16', a17', a18', a19')) : wpX_throttled post (pr, so, si, ed, fl, qf, qs, oc, a1, a2, a3, a4, a5, a6, a7, a8, a9, a10, a11, a12, a13, a14, a15, a16, a17, a18, a19) y z w := by
  subst ey
  subst ez
  subst ew
  unfold wpX_throttled
  refine fw_pair1 hs ht hst (br_f (by decide) (br_f (nI_pos (by omega)) (br_t (nI_le (b := 99) hmu (by decide)) (fw_ls_w (kind := 3) (g := 3) hA (by omega) hs ht hst (by omega) (by omega) hl.1 hl.2 hm (fun qf' qs' oc' a4' a5' a6' a7' a8' a9' a10' a11' a12' a13' a14' a15' a16' a17' a18' a19' LF' n' _ _ e => ?_)))))
  have e : n' = v := fw_eq e
  subst e
  exact hp _ _ _ _ _ _ _ _ _ _ _ _ _ _ _ _ _ _ _ _ _ _ _
end
/-! the weakest pair: some pair has nothing -/
section
variable {pr : Int32} {a1 a2 a3 : Nat → Int32}
theorem fw_weak13 {post : Int32 → St2 → Prop} {J : Int32 → Int32 → Int32 → Int32 → Int32 → Int32 → Int32 → Int32 → Int32 → Int32 → (Nat → Int32) → (Nat → Int32) → (Nat → Int32) → (Nat → Int32) → (Nat → Int32) → (Nat → Int32) → (Nat → Int32) → (Nat → Int32) → (Nat → Int32) → (Nat → Int32) → (Nat → Int32) → (Nat → Int32) → (Nat → Int32) → (Nat → Int32) → (Nat → Int32) → (Nat → Int32) → (Nat → Int32) → (Nat → Int32) → (Nat → Int32) → Prop}
    {adj : Nat → List (Nat × Nat)} {PR FR TT RM TO NX FS E s LF : Nat} (hA : fw_Arcs PR FR TT RM pr a1 a2 a3) (hs : s < 8)
    (hl : ∀ t, t < 8 → fw_Lay PR FR TT RM 0 1 s t adj TO NX FS E LF)
    (hm : ∀ t, t < 8 → t ≠ s → fw_solve adj TO NX FS E s t ((s + t) % 7) LF (fun _ n => fw_if (Nat.beq t 0) (Nat.beq n 0) (Nat.ble n 1048576)) = true)
    (hJ : ∀ (l : Nat) (so' si' ed' fl' qf' qs' oc' : Int32) (a4' a5' a6' a7' a8' a9' a10' a11' a12' a13' a14' a15' a16' a17' a18' a19' : Nat → Int32), l ≤ 1048576 → (1 ≤ s → l = 0) → J (nI l) (nI (s + 1)) pr so' si' ed' fl' qf' qs' oc' a1 a2 a3 a4' a5' a6' a7' a8' a9' a10' a11' a12' a13' a14' a15' a16' a17' a18' a19') :
    ∀ (F t l : Nat) (so si ed fl qf qs oc : Int32) (a4 a5 a6 a7 a8 a9 a10 a11 a12 a13 a14 a15 a16 a17 a18 a19 : Nat → Int32), t + F = 8 → l ≤ 1048576 → (2 ≤ s → l = 0) → (1 ≤ s → 1 ≤ t → l = 0) → wX_weakest_13 post J (nI s) (F + 1) (nI l) (nI t) pr so si ed fl qf qs oc a1 a2 a3 a4 a5 a6 a7 a8 a9 a10 a11 a12 a13 a14 a15 a16 a17 a18 a19 := by
  intro F
  induction F with
  | zero =>
    intro t l so si ed fl qf qs oc a4 a5 a6 a7 a8 a9 a10 a11 a12 a13 a14 a15 a16 a17 a18 a19 ht hl1 h2 h1
    exact br_t (by rw [show t = 8 by omega]; decide) (nm_r (nI_1 s) (hJ l _ _ _ _ _ _ _ _ _ _ _ _ _ _ _ _ _ _ _ _ _ _ _ hl1 (fun z => h1 z (by omega))))
  | succ F ih =>
    intro t l so si ed fl qf qs oc a4 a5 a6 a7 a8 a9 a10 a11 a12 a13 a14 a15 a16 a17 a18 a19 ht hl1 h2 h1
    refine br_f (nI_ge (b := 8) (by omega) (by decide)) ?_
    by_cases e : s = t
    · refine br_t (by rw [e]) ?_
      refine br_t (nI_le (b := 1048576) hl1 (by decide)) (nm_r (nI_1 t) (ih (t + 1) l _ _ _ _ _ _ _ _ _ _ _ _ _ _ _ _ _ _ _ _ _ _ _ (by omega) hl1 h2 (fun z1 z2 => ?_)))
      by_cases z : 2 ≤ s
      · exact h2 z
      · exact h1 z1 (by omega)
    · have rem : (nI s + nI t) - (nI s + nI t) / 7 * 7 = nI ((s + t) % 7) := by
        rw [nI_add]
        exact pk_rem (d := 7) (by omega) (by omega) (by omega)
      refine br_f (by rw [nI_eq (by omega) (by omega)]; exact e) ⟨by decide, ?_⟩
      rw [rem]
      refine fw_best_w (kind := 0) hA (by omega) hs (by omega) (fun z => e z.symm) (Nat.mod_lt _ (by omega)) (hl t (by omega)).1 (hl t (by omega)).2 (hm t (by omega) (fun z => e z.symm)) (fun qf' qs' oc' a4' a5' a6' a7' a8' a9' a10' a11' a12' a13' a14' a15' a16' a17' a18' a19' LF' n' _ _ hk => ?_)
      have hn : n' ≤ 1048576 ∧ (t = 0 → n' = 0) := by
        rcases fw_ifE hk with ⟨c, hk⟩ | ⟨c, hk⟩
        · have hk := fw_eq hk
          exact ⟨by omega, fun _ => hk⟩
        · have c := fw_ne c
          exact ⟨fw_le hk, fun z => absurd z c⟩
      by_cases g : l ≤ n'
      · refine br_t (nI_le g (by omega)) (nm_r (nI_1 t) (ih (t + 1) l _ _ _ _ _ _ _ _ _ _ _ _ _ _ _ _ _ _ _ _ _ _ _ (by omega) hl1 h2 (fun z1 z2 => ?_)))
        by_cases z : t = 0
        · have := hn.2 z
          omega
        · exact h1 z1 (by omega)
      · refine br_f (nI_ge (by omega) (by omega)) (nm_r (nI_1 t) (ih (t + 1) n' _ _ _ _ _ _ _ _ _ _ _ _ _ _ _ _ _ _ _ _ _ _ _ (by omega) hn.1 (fun z => ?_) (fun z1 z2 => ?_)))
        · have := h2 z
          omega
        · by_cases z : t = 0
          · exact hn.2 z
          · have := h1 z1 (by omega)
            omega
theorem fw_weakest_c {post : Int32 → St2 → Prop} {adj : Nat → List (Nat × Nat)} {PR FR TT RM TO NX FS E LF : Nat} (hA : fw_Arcs PR FR TT RM pr a1 a2 a3)
    (hl : ∀ s t, s < 8 → t < 8 → fw_Lay PR FR TT RM 0 1 s t adj TO NX FS E LF)
    (hm : ∀ s t, s < 8 → t < 8 → t ≠ s → fw_solve adj TO NX FS E s t ((s + t) % 7) LF (fun _ n => fw_if (Nat.beq t 0) (Nat.beq n 0) (Nat.ble n 1048576)) = true)
    (so si ed fl qf qs oc : Int32) (a4 a5 a6 a7 a8 a9 a10 a11 a12 a13 a14 a15 a16 a17 a18 a19 : Nat → Int32)
    (hp : ∀ (so' si' ed' fl' qf' qs' oc' : Int32) (a4' a5' a6' a7' a8' a9' a10' a11' a12' a13' a14' a15' a16' a17' a18' a19' : Nat → Int32), post 0 (pr, so', si', ed', fl', qf', qs', oc', a1, a2, a3, a4', a5', a6', a7', a8', a9', a10', a11', a12', a13', a14', a15', a16', a17', a18', a19')) : wpX_weakest post (pr, so, si, ed, fl, qf, qs, oc, a1, a2, a3, a4, a5, a6, a7, a8, a9, a10, a11, a12, a13, a14, a15, a16, a17, a18, a19) := by
  have go : ∀ (F s l : Nat) (so si ed fl qf qs oc : Int32) (a4 a5 a6 a7 a8 a9 a10 a11 a12 a13 a14 a15 a16 a17 a18 a19 : Nat → Int32), s + F = 8 → l ≤ 1048576 → (2 ≤ s → l = 0) → wX_weakest_5 post (F + 1) (nI l) (nI s) pr so si ed fl qf qs oc a1 a2 a3 a4 a5 a6 a7 a8 a9 a10 a11 a12 a13 a14 a15 a16 a17 a18 a19 := by
    intro F
    induction F with
    | zero =>
      intro s l so si ed fl qf qs oc a4 a5 a6 a7 a8 a9 a10 a11 a12 a13 a14 a15 a16 a17 a18 a19 hs hl1 h2
      have e := h2 (by omega)
      subst e
      exact br_t (by rw [show s = 8 by omega]; decide) (hp _ _ _ _ _ _ _ _ _ _ _ _ _ _ _ _ _ _ _ _ _ _ _)
    | succ F ih =>
      intro s l so si ed fl qf qs oc a4 a5 a6 a7 a8 a9 a10 a11 a12 a13 a14 a15 a16 a17 a18 a19 hs hl1 h2
      refine br_f (nI_ge (b := 8) (by omega) (by decide)) ⟨9, fw_weak13 hA (by omega) (fun t ht => hl s t (by omega) ht) (fun t ht hts => hm s t (by omega) ht hts) (fun l' so' si' ed' fl' qf' qs' oc' a4' a5' a6' a7' a8' a9' a10' a11' a12' a13' a14' a15' a16' a17' a18' a19' hl' h1' => ih (s + 1) l' _ _ _ _ _ _ _ _ _ _ _ _ _ _ _ _ _ _ _ _ _ _ _ (by omega) hl' (fun z => h1' (by omega))) 8 0 l _ _ _ _ _ _ _ _ _ _ _ _ _ _ _ _ _ _ _ _ _ _ _ (by omega) hl1 h2 (fun _ z => absurd z (by omega))⟩
  exact ⟨9, go 8 0 1048576 _ _ _ _ _ _ _ _ _ _ _ _ _ _ _ _ _ _ _ _ _ _ _ (by omega) (by omega) (fun z => absurd z (by omega))⟩
end
end
section
/-! arcs made, taken away, changed; calls that are refused -/
theorem fw_Arcs_put {PR FR TT RM a b r k : Nat} {pr : Int32} {a1 a2 a3 : Nat → Int32} (hA : fw_Arcs PR FR TT RM pr a1 a2 a3) (ha : a < 8) (hb : b < 8) (hr : r < 256) (hk : k < 20) :
    fw_Arcs (fw_on PR k) (fw_s FR k a) (fw_s TT k b) (fw_s RM k r) (nI (fw_on PR k)) (upd a1 k (nI a)) (upd a2 k (nI b)) (upd a3 k (nI r)) := by
  obtain ⟨h1, h2, h3⟩ := hA
  refine ⟨fw_on_lt h1 hk, rfl, fun j hj hb0 => ?_⟩
  rw [fw_g_e _ _ _ (by omega), fw_g_e _ _ _ (by omega), fw_g_e _ _ _ hr]
  by_cases e : j = k
  · simp only [e, if_true, pk_us]
    exact ⟨ha, trivial, hb, trivial, trivial⟩
  · rw [if_neg e, if_neg e, if_neg e, pk_un e, pk_un e, pk_un e]
    rw [fw_b_on, if_neg e] at hb0
    exact h3 j hj hb0
section
variable {pr so si ed fl qf qs oc : Int32} {a1 a2 a3 a4 a5 a6 a7 a8 a9 a10 a11 a12 a13 a14 a15 a16 a17 a18 a19 : Nat → Int32}
theorem fw_add_c {post : Int32 → St2 → Prop} {PR FR TT RM a b r k : Nat} {x y z : Int32} (ex : x = nI a) (ey : y = nI b) (ez : z = nI r) (hA : fw_Arcs PR FR TT RM pr a1 a2 a3) (ha : a < 8) (hb : b < 8) (hab : b ≠ a) (hr : r ≤ 99) (hk : k < 20)
    (hlt : ∀ j, j < k → fw_b PR j ≠ 0) (h0 : fw_b PR k = 0)
    (hp : ∀ (pr' : Int32) (a1' a2' a3' : Nat → Int32), fw_Arcs (fw_on PR k) (fw_s FR k a) (fw_s TT k b) (fw_s RM k r) pr' a1' a2' a3' → post (nI k) (pr', so, si, ed, fl, qf, qs, oc, a1', a2', a3', a4, a5, a6, a7, a8, a9, a10, a11, a12, a13, a14, a15, a16, a17, a18, a19)) : wpX_add post (pr, so, si, ed, fl, qf, qs, oc, a1, a2, a3, a4, a5, a6, a7, a8, a9, a10, a11, a12, a13, a14, a15, a16, a17, a18, a19) x y z := by
  subst ex
  subst ey
  subst ez
  unfold wpX_add
  have hP := hA.1
  have hpr := hA.2.1
  refine fw_pair1 ha hb hab (br_f (by decide) (br_f (nI_pos (by omega)) (br_t (nI_le (b := 99) hr (by decide)) ⟨k + 1, ?_⟩)))
  have go : ∀ F i, i + F = k → wX_add_23 post (nI a) (nI b) (nI r) pr so si ed fl qf qs oc a1 a2 a3 a4 a5 a6 a7 a8 a9 a10 a11 a12 a13 a14 a15 a16 a17 a18 a19 (F + 1) (nI i) := by
    intro F
    induction F with
    | zero =>
      intro i hi
      have e : i = k := by omega
      subst e
      have ik : vp_in (nI i) 20 := fw_in hk
      refine br_f (nI_ge (b := 20) (by omega) (by decide)) (fw_has_w hpr (by omega) (by omega) (fun _ => br_t rfl ?_) (fun z => absurd h0 z))
      exact nm_r (e' := nI (fw_on PR i)) (by rw [hpr, fw_s1 (by omega), fw_or]; rfl) ⟨ik, nm_r (fw_ud (y := nI a) (by omega) (fw_by a (by omega))) ⟨ik, nm_r (fw_ud (y := nI b) (by omega) (fw_by b (by omega))) ⟨ik, nm_r (fw_ud (y := nI r) (by omega) (fw_by r (by omega))) (hp _ _ _ _ (fw_Arcs_put hA ha hb (by omega) hk))⟩⟩⟩
    | succ F ih =>
      intro i hi
      exact br_f (nI_ge (b := 20) (by omega) (by decide)) (fw_has_w hpr (by omega) (by omega) (fun z => absurd z (hlt i (by omega))) (fun _ => br_f (by decide) (nm_r (nI_1 i) (ih _ (by omega)))))
  exact go k 0 (by omega)
theorem fw_addfull_c {post : Int32 → St2 → Prop} {PR FR TT RM a b r : Nat} {x y z : Int32} (ex : x = nI a) (ey : y = nI b) (ez : z = nI r) (hA : fw_Arcs PR FR TT RM pr a1 a2 a3) (ha : a < 8) (hb : b < 8) (hab : b ≠ a) (hr : r ≤ 99)
    (hlt : ∀ j, j < 20 → fw_b PR j ≠ 0) (hp : post (-2) (pr, so, si, ed, fl, qf, qs, oc, a1, a2, a3, a4, a5, a6, a7, a8, a9, a10, a11, a12, a13, a14, a15, a16, a17, a18, a19)) : wpX_add post (pr, so, si, ed, fl, qf, qs, oc, a1, a2, a3, a4, a5, a6, a7, a8, a9, a10, a11, a12, a13, a14, a15, a16, a17, a18, a19) x y z := by
  subst ex
  subst ey
  subst ez
  unfold wpX_add
  have hP := hA.1
  have hpr := hA.2.1
  refine fw_pair1 ha hb hab (br_f (by decide) (br_f (nI_pos (by omega)) (br_t (nI_le (b := 99) hr (by decide)) ⟨21, ?_⟩)))
  have go : ∀ F i, i + F = 20 → wX_add_23 post (nI a) (nI b) (nI r) pr so si ed fl qf qs oc a1 a2 a3 a4 a5 a6 a7 a8 a9 a10 a11 a12 a13 a14 a15 a16 a17 a18 a19 (F + 1) (nI i) := by
    intro F
    induction F with
    | zero => exact fun i hi => br_t (by rw [show i = 20 by omega]; decide) hp
    | succ F ih =>
      intro i hi
      exact br_f (nI_ge (b := 20) (by omega) (by decide)) (fw_has_w hpr (by omega) (by omega) (fun z => absurd z (hlt i (by omega))) (fun _ => br_f (by decide) (nm_r (nI_1 i) (ih _ (by omega)))))
  exact go 20 0 (by omega)
theorem fw_change_c {post : Int32 → St2 → Prop} {PR FR TT RM k r : Nat} {x y : Int32} (ex : x = nI k) (ey : y = nI r) (hA : fw_Arcs PR FR TT RM pr a1 a2 a3) (hk : k < 20) (h1 : fw_b PR k ≠ 0) (hr : r ≤ 99)
    (hp : ∀ (a3' : Nat → Int32), fw_Arcs PR FR TT (fw_s RM k r) pr a1 a2 a3' → post (nI (fw_g RM k)) (pr, so, si, ed, fl, qf, qs, oc, a1, a2, a3', a4, a5, a6, a7, a8, a9, a10, a11, a12, a13, a14, a15, a16, a17, a18, a19)) : wpX_change post (pr, so, si, ed, fl, qf, qs, oc, a1, a2, a3, a4, a5, a6, a7, a8, a9, a10, a11, a12, a13, a14, a15, a16, a17, a18, a19) x y := by
  subst ex
  subst ey
  have hP := hA.1
  have hpr := hA.2.1
  obtain ⟨hf8, e1, ht8, e2, e3⟩ := hA.2.2 k hk h1
  have ik : vp_in (nI k) 20 := fw_in hk
  unfold wpX_change
  refine fw_has_w hpr (by omega) hk (fun z => absurd z h1) (fun _ => br_f (by decide) (br_f (nI_pos (by omega)) (br_t (nI_le (b := 99) hr (by decide)) ⟨ik, nm_r (fw_rd e3 (by omega)) ⟨ik, nm_r (fw_ud (y := nI r) (by omega) (fw_by r (by omega))) (hp _ ⟨hP, hpr, fun j hj hb => ?_⟩)⟩⟩)))
  obtain ⟨f1, f2, f3, f4, f5⟩ := hA.2.2 j hj hb
  refine ⟨f1, f2, f3, f4, ?_⟩
  rw [fw_g_e _ _ _ (by omega)]
  by_cases e : j = k
  · rw [if_pos e, e, pk_us]
  · rw [if_neg e, pk_un e]
    exact f5
theorem fw_remove_c {post : Int32 → St2 → Prop} {PR PR' FR TT RM k : Nat} {x : Int32} (ex : x = nI k) (hA : fw_Arcs PR FR TT RM pr a1 a2 a3) (hk : k < 20) (h1 : fw_b PR k ≠ 0)
    (e1 : nI PR &&& (((1 : Int32) <<< (nI k &&& 31)) ^^^ (-1)) = nI PR') (hP' : PR' < 2 ^ 20) (hb' : ∀ j, j < 20 → fw_b PR' j ≠ 0 → fw_b PR j ≠ 0)
    (hp : ∀ (pr' : Int32), fw_Arcs PR' FR TT RM pr' a1 a2 a3 → pr' = nI PR' → post (nI (fw_g RM k)) (pr', so, si, ed, fl, qf, qs, oc, a1, a2, a3, a4, a5, a6, a7, a8, a9, a10, a11, a12, a13, a14, a15, a16, a17, a18, a19)) : wpX_remove post (pr, so, si, ed, fl, qf, qs, oc, a1, a2, a3, a4, a5, a6, a7, a8, a9, a10, a11, a12, a13, a14, a15, a16, a17, a18, a19) x := by
  subst ex
  have hP := hA.1
  have hpr := hA.2.1
  obtain ⟨hf8, f1, ht8, f2, f3⟩ := hA.2.2 k hk h1
  unfold wpX_remove
  refine fw_has_w hpr (by omega) hk (fun z => absurd z h1) (fun _ => br_f (by decide) (nm_r (e' := nI PR') (by rw [hpr]; exact e1) ⟨fw_in hk, ?_⟩))
  rw [fw_rd f3 (by omega)]
  exact hp _ ⟨hP', rfl, fun j hj hb => hA.2.2 j hj (hb' j hj hb)⟩ rfl
/-! refused -/
theorem fw_noAdd00 {post : Int32 → St2 → Prop} (hp : post (-1) (pr, so, si, ed, fl, qf, qs, oc, a1, a2, a3, a4, a5, a6, a7, a8, a9, a10, a11, a12, a13, a14, a15, a16, a17, a18, a19)) : wpX_add post (pr, so, si, ed, fl, qf, qs, oc, a1, a2, a3, a4, a5, a6, a7, a8, a9, a10, a11, a12, a13, a14, a15, a16, a17, a18, a19) 0 0 1 := by
  unfold wpX_add wpX_isPair
  exact br_f (by decide) (br_f (by decide) (br_f (by decide) (br_f (by decide) (br_f (by decide) (br_f (by decide) (br_t rfl (br_t rfl hp)))))))
theorem fw_noAdd08 {post : Int32 → St2 → Prop} (hp : post (-1) (pr, so, si, ed, fl, qf, qs, oc, a1, a2, a3, a4, a5, a6, a7, a8, a9, a10, a11, a12, a13, a14, a15, a16, a17, a18, a19)) : wpX_add post (pr, so, si, ed, fl, qf, qs, oc, a1, a2, a3, a4, a5, a6, a7, a8, a9, a10, a11, a12, a13, a14, a15, a16, a17, a18, a19) 0 8 1 := by
  unfold wpX_add wpX_isPair
  exact br_f (by decide) (br_f (by decide) (br_f (by decide) (br_f (by decide) (br_t (by decide) (br_t rfl (br_t rfl hp))))))
theorem fw_noChange20 {post : Int32 → St2 → Prop} (hp : post (-1) (pr, so, si, ed, fl, qf, qs, oc, a1, a2, a3, a4, a5, a6, a7, a8, a9, a10, a11, a12, a13, a14, a15, a16, a17, a18, a19)) : wpX_change post (pr, so, si, ed, fl, qf, qs, oc, a1, a2, a3, a4, a5, a6, a7, a8, a9, a10, a11, a12, a13, a14, a15, a16, a17, a18, a19) 20 1 := by
  unfold wpX_change
  exact br_f (by decide) (br_t (by decide) (br_t rfl hp))
theorem fw_noChange100 {post : Int32 → St2 → Prop} {PR : Nat} (hpr : pr = nI PR) (hP : PR < 2 ^ 20) (h1 : fw_b PR 0 ≠ 0) (hp : post (-1) (pr, so, si, ed, fl, qf, qs, oc, a1, a2, a3, a4, a5, a6, a7, a8, a9, a10, a11, a12, a13, a14, a15, a16, a17, a18, a19)) : wpX_change post (pr, so, si, ed, fl, qf, qs, oc, a1, a2, a3, a4, a5, a6, a7, a8, a9, a10, a11, a12, a13, a14, a15, a16, a17, a18, a19) 0 100 := by
  unfold wpX_change
  exact fw_has_w (k := 0) hpr (by omega) (by omega) (fun z => absurd z h1) (fun _ => br_f (by decide) (br_f (by decide) (br_f (by decide) hp)))
theorem fw_noRemove {post : Int32 → St2 → Prop} (hp : post (-1) (pr, so, si, ed, fl, qf, qs, oc, a1, a2, a3, a4, a5, a6, a7, a8, a9, a10, a11, a12, a13, a14, a15, a16, a17, a18, a19)) : wpX_remove post (pr, so, si, ed, fl, qf, qs, oc, a1, a2, a3, a4, a5, a6, a7, a8, a9, a10, a11, a12, a13, a14, a15, a16, a17, a18, a19) 20 := by
  unfold wpX_remove
  exact br_f (by decide) (br_t (by decide) (br_t rfl hp))
theorem fw_noValue {post : Int32 → St2 → Prop} (hp : post (-1) (pr, so, si, ed, fl, qf, qs, oc, a1, a2, a3, a4, a5, a6, a7, a8, a9, a10, a11, a12, a13, a14, a15, a16, a17, a18, a19)) : wpX_value post (pr, so, si, ed, fl, qf, qs, oc, a1, a2, a3, a4, a5, a6, a7, a8, a9, a10, a11, a12, a13, a14, a15, a16, a17, a18, a19) 7 0 7 := by
  unfold wpX_value
  exact fw_pair1 (s := 0) (t := 7) (by omega) (by omega) (by omega) (br_f (by decide) (br_f (by decide) (br_t (by decide) (br_t rfl hp))))
theorem fw_noAgree {post : Int32 → St2 → Prop} (hp : post 0 (pr, so, si, ed, fl, qf, qs, oc, a1, a2, a3, a4, a5, a6, a7, a8, a9, a10, a11, a12, a13, a14, a15, a16, a17, a18, a19)) : wpX_agree post (pr, so, si, ed, fl, qf, qs, oc, a1, a2, a3, a4, a5, a6, a7, a8, a9, a10, a11, a12, a13, a14, a15, a16, a17, a18, a19) 0 7 0 7 := by
  unfold wpX_agree
  exact fw_pair1 (s := 0) (t := 7) (by omega) (by omega) (by omega) (br_f (by decide) (fw_eng1 (g := 0) (by omega) (br_f (by decide) (br_f (by decide) (br_t (by decide) (br_t rfl hp))))))
theorem fw_noLeast {post : Int32 → St2 → Prop} (hp : post (-1) (pr, so, si, ed, fl, qf, qs, oc, a1, a2, a3, a4, a5, a6, a7, a8, a9, a10, a11, a12, a13, a14, a15, a16, a17, a18, a19)) : wpX_least post (pr, so, si, ed, fl, qf, qs, oc, a1, a2, a3, a4, a5, a6, a7, a8, a9, a10, a11, a12, a13, a14, a15, a16, a17, a18, a19) 3 3 := by
  unfold wpX_least wpX_isPair
  exact br_f (by decide) (br_f (by decide) (br_f (by decide) (br_f (by decide) (br_f (by decide) (br_f (by decide) (br_t rfl (br_t rfl hp)))))))
theorem fw_noThrottled {post : Int32 → St2 → Prop} (hp : post (-1) (pr, so, si, ed, fl, qf, qs, oc, a1, a2, a3, a4, a5, a6, a7, a8, a9, a10, a11, a12, a13, a14, a15, a16, a17, a18, a19)) : wpX_throttled post (pr, so, si, ed, fl, qf, qs, oc, a1, a2, a3, a4, a5, a6, a7, a8, a9, a10, a11, a12, a13, a14, a15, a16, a17, a18, a19) 0 7 100 := by
  unfold wpX_throttled
  exact fw_pair1 (s := 0) (t := 7) (by omega) (by omega) (by omega) (br_f (by decide) (br_f (by decide) (br_f (by decide) hp)))
end
/-! the first two kinds of net don't ask for the ends -/
theorem fw_oo_k {kind : Nat} (h : Nat.ble 2 kind = false) (s t p : Nat) (k : Nat → Bool) : fw_oo kind s t p k = k p := by
  unfold fw_oo
  rw [h]
  rfl
theorem fw_l47_k {PR FR TT RM kind : Nat} (h : Nat.ble 2 kind = false) (s t s' t' : Nat) (k : Nat → Nat → Nat → Nat → Nat → Bool) : ∀ F, fw_l47 PR FR TT RM kind s t k F = fw_l47 PR FR TT RM kind s' t' k F := by
  intro F
  induction F with
  | zero => rfl
  | succ F ih =>
    funext i TO NX FS LF E
    show fw_if (Nat.beq (fw_b PR i) 0) (fw_l47 PR FR TT RM kind s t k F (Nat.succ i) TO NX FS LF E) (fw_oo kind s t (fw_g FR i) (fun fr => fw_cap kind (fw_g RM i) (fun c => fw_ae fr (fw_g TT i) c TO NX FS LF E (fw_l47 PR FR TT RM kind s t k F (Nat.succ i))))) = fw_if (Nat.beq (fw_b PR i) 0) (fw_l47 PR FR TT RM kind s' t' k F (Nat.succ i) TO NX FS LF E) (fw_oo kind s' t' (fw_g FR i) (fun fr => fw_cap kind (fw_g RM i) (fun c => fw_ae fr (fw_g TT i) c TO NX FS LF E (fw_l47 PR FR TT RM kind s' t' k F (Nat.succ i)))))
    rw [fw_oo_k h, fw_oo_k h, ih]
theorem fw_l137_k {kind : Nat} (h : Nat.ble 2 kind = false) (s t much p : Nat) (k : Nat → Nat → Nat → Nat → Nat → Bool) (TO NX FS LF E : Nat) : fw_l137 kind s t much k 8 p TO NX FS LF E = k TO NX FS LF E := by
  show fw_if (Nat.ble 2 kind) _ (k TO NX FS LF E) = _
  rw [h]
  rfl
theorem fw_lay_k {PR FR TT RM kind much : Nat} (h : Nat.ble 2 kind = false) (s t s' t' : Nat) (k : Nat → Nat → Nat → Nat → Nat → Bool) : fw_lay PR FR TT RM kind s t much k = fw_lay PR FR TT RM kind s' t' much k := by
  unfold fw_lay
  rw [show (fun TO NX FS LF E => fw_l137 kind s t much k 8 0 TO NX FS LF E) = k from by funext TO NX FS LF E; exact fw_l137_k h s t much 0 k TO NX FS LF E,
    show (fun TO NX FS LF E => fw_l137 kind s' t' much k 8 0 TO NX FS LF E) = k from by funext TO NX FS LF E; exact fw_l137_k h s' t' much 0 k TO NX FS LF E, fw_l47_k h s t s' t']
theorem fw_Lay_k {PR FR TT RM kind much TO NX FS E LF s t : Nat} {adj : Nat → List (Nat × Nat)} (h : Nat.ble 2 kind = false) (hl : fw_Lay PR FR TT RM kind much s t adj TO NX FS E LF) (s' t' : Nat) : fw_Lay PR FR TT RM kind much s' t' adj TO NX FS E LF :=
  ⟨(fw_lay_k h s' t' s t _).trans hl.1, hl.2⟩
end
section
/-! the nets of the law, and what it asks for (written by mkconst.js) -/
noncomputable def fw_nth (L : List (List (Nat × Nat))) : Nat → List (Nat × Nat) := @List.rec (List (Nat × Nat)) (fun _ => Nat → List (Nat × Nat)) (fun _ => []) (fun x _ ih n => @Nat.rec (fun _ => List (Nat × Nat)) x (fun m _ => ih m) n) L
noncomputable def fw_sg (x : Nat) : Nat := fw_ifn (Nat.beq x 0) 0 1
noncomputable def fw_mn (x y : Nat) : Nat := fw_ifn (Nat.ble x y) x y
noncomputable def fw_eqn (x y : Nat) : Nat := fw_ifn (Nat.beq x y) 1 0
noncomputable def fw_val (a b c : Nat) : Nat := fw_mn (Nat.mul 3 c) (fw_mn (Nat.mul 9 b) (Nat.mul 3 a))
noncomputable def fw_fX (a b c : Nat) : Nat := fw_eqn (Nat.mul 3 a) (fw_val a b c)
noncomputable def fw_fY (a b c : Nat) : Nat := fw_eqn (Nat.mul 9 b) (fw_val a b c)
noncomputable def fw_fZ (a b c : Nat) : Nat := fw_eqn (Nat.mul 3 c) (fw_val a b c)
noncomputable def fw_fT (a b c : Nat) : Nat := Nat.add (Nat.add (fw_ifn (Nat.beq (fw_fX a b c) 0) 0 7) (fw_ifn (Nat.beq (fw_fY a b c) 0) 0 4088)) (fw_ifn (Nat.beq (fw_fZ a b c) 0) 0 28672)
noncomputable def fw_fS (a b c : Nat) : Nat := fw_eqn (Nat.add (Nat.add (fw_ifn (Nat.beq (fw_fX a b c) 0) 0 1) (fw_ifn (Nat.beq (fw_fY a b c) 0) 0 1)) (fw_ifn (Nat.beq (fw_fZ a b c) 0) 0 1)) 1
noncomputable def fw_fA (a b c : Nat) : Nat := fw_ifn (Nat.beq a 0) 0 (fw_ifn (Nat.beq b 0) 0 (fw_ifn (Nat.beq c 0) 0 1))
noncomputable def fw_fL (a b c : Nat) : Nat := fw_ifn (Nat.beq (fw_fX a b c) 0) (fw_ifn (Nat.beq (fw_fY a b c) 0) 127 15) 1
noncomputable def fw_fM (a b c : Nat) : Nat := fw_ifn (Nat.beq (fw_fZ a b c) 0) (fw_ifn (Nat.beq (fw_fY a b c) 0) 254 240) 128
noncomputable def fw_fW (a b c : Nat) : Nat := fw_ifn (Nat.beq (fw_fS a b c) 0) 0 (fw_fT a b c)
noncomputable def fw_all3 (n a b c : Nat) : Nat := fw_ifn (Nat.beq (fw_fA a b c) 0) 0 n
noncomputable def fw_less (a b c m : Nat) : Nat := fw_mn (Nat.mul 9 b) (Nat.mul 3 (fw_mn (fw_mn m c) (fw_mn m a)))
noncomputable def fw_now (a b c : Nat) : Nat := fw_mn (Nat.mul 3 c) (fw_mn (Nat.mul 6 b) (Nat.mul 2 a))
noncomputable def fw_adj1 : Nat → List (Nat × Nat) := fw_nth [[(4, 3), (2, 2), (0, 1)], [(10, 6), (8, 5), (6, 4), (1, 0)], [(16, 6), (14, 5), (12, 4), (3, 0)], [(22, 6), (20, 5), (18, 4), (5, 0)], [(24, 7), (19, 3), (13, 2), (7, 1)], [(26, 7), (21, 3), (15, 2), (9, 1)], [(28, 7), (23, 3), (17, 2), (11, 1)], [(29, 6), (27, 5), (25, 4)], [], [], [], [], [], [], [], []]
def fw_TO1 : Nat := 41599727154976521326000482877502350109247552186898002028674592331137025
def fw_NX1 : Nat := 193898683600131834567570609902984906149177428563625966331686578848595968
def fw_FS1 : Nat := 2169920390037572357
def fw_E1 : Nat := 30
noncomputable def fw_adj2 : Nat → List (Nat × Nat) := fw_nth [[(2, 3), (0, 1)], [(8, 6), (6, 5), (4, 4), (1, 0)], [(14, 6), (12, 5), (10, 4)], [(20, 6), (18, 5), (16, 4), (3, 0)], [(22, 7), (17, 3), (11, 2), (5, 1)], [(24, 7), (19, 3), (13, 2), (7, 1)], [(26, 7), (21, 3), (15, 2), (9, 1)], [(27, 6), (25, 5), (23, 4)], [], [], [], [], [], [], [], []]
def fw_TO2 : Nat := 634761461715339986053474165000951387165032229414337189158242680833
def fw_NX2 : Nat := 2747208550504580482520967105898492234382134481317054192220031221760
def fw_FS2 : Nat := 2025240044361419011
def fw_E2 : Nat := 28
noncomputable def fw_adj3 : Nat → List (Nat × Nat) := fw_nth [[(38, 7), (36, 7), (34, 7), (32, 7), (30, 7), (4, 3), (2, 7), (0, 1)], [(10, 6), (8, 5), (6, 4), (1, 0)], [(16, 6), (14, 5), (12, 4)], [(22, 6), (20, 5), (18, 4), (5, 0)], [(24, 7), (19, 3), (13, 2), (7, 1)], [(26, 7), (21, 3), (15, 2), (9, 1)], [(28, 7), (23, 3), (17, 2), (11, 1)], [(39, 0), (37, 0), (35, 0), (33, 0), (31, 0), (29, 6), (27, 5), (25, 4), (3, 0)], [], [], [], [], [], [], [], []]
def fw_TO3 : Nat := 228151510665237973247392474454513050123654902190576658361396047924022710180738936268036440065
def fw_NX3 : Nat := 318271101746062249724300007140149224997343415546564722733466571973711050485695331441817711345664
def fw_FS3 : Nat := 2890496330416851751
def fw_E3 : Nat := 40
noncomputable def fw_adjs1 : Nat → List (Nat × Nat) := fw_nth [[(4, 3), (2, 2), (0, 1)], [(30, 9), (1, 0)], [(32, 10), (3, 0)], [(34, 11), (5, 0)], [(36, 12), (19, 11), (13, 10), (7, 9)], [(38, 13), (21, 11), (15, 10), (9, 9)], [(40, 14), (23, 11), (17, 10), (11, 9)], [(29, 14), (27, 13), (25, 12)], [], [(31, 1), (10, 6), (8, 5), (6, 4)], [(33, 2), (16, 6), (14, 5), (12, 4)], [(35, 3), (22, 6), (20, 5), (18, 4)], [(37, 4), (24, 7)], [(39, 5), (26, 7)], [(41, 6), (28, 7)], []]
def fw_TOs1 : Nat := 3310822048392921820022149906344858135109484986502649725501295890473359755747878495998313548384174081
def fw_NXs1 : Nat := 15909057443651156652073525549822018848594813740519181598197343705508279085824345619502648514800844800
def fw_FSs1 : Nat := 218890786295499318596150320867385093
def fw_Es1 : Nat := 42
noncomputable def fw_adjs2 : Nat → List (Nat × Nat) := fw_nth [[(2, 3), (0, 1)], [(28, 9), (1, 0)], [(30, 10)], [(32, 11), (3, 0)], [(34, 12), (17, 11), (11, 10), (5, 9)], [(36, 13), (19, 11), (13, 10), (7, 9)], [(38, 14), (21, 11), (15, 10), (9, 9)], [(27, 14), (25, 13), (23, 12)], [], [(29, 1), (8, 6), (6, 5), (4, 4)], [(31, 2), (14, 6), (12, 5), (10, 4)], [(33, 3), (20, 6), (18, 5), (16, 4)], [(35, 4), (22, 7)], [(37, 5), (24, 7)], [(39, 6), (26, 7)], []]
def fw_TOs2 : Nat := 50519135259901761169771574498670320665122756752054591758747801063131099788633399902318016790529
def fw_NXs2 : Nat := 226000112218449576581110317877625349048522148651266275624907224792637887108841976175324209152000
def fw_FSs2 : Nat := 208465468681500015310000765852916995
def fw_Es2 : Nat := 40
noncomputable def fw_adjs3 : Nat → List (Nat × Nat) := fw_nth [[(38, 7), (36, 7), (34, 7), (32, 7), (30, 7), (4, 3), (2, 7), (0, 1)], [(40, 9), (1, 0)], [(42, 10)], [(44, 11), (5, 0)], [(46, 12), (19, 11), (13, 10), (7, 9)], [(48, 13), (21, 11), (15, 10), (9, 9)], [(50, 14), (23, 11), (17, 10), (11, 9)], [(39, 0), (37, 0), (35, 0), (33, 0), (31, 0), (29, 14), (27, 13), (25, 12), (3, 0)], [], [(41, 1), (10, 6), (8, 5), (6, 4)], [(43, 2), (16, 6), (14, 5), (12, 4)], [(45, 3), (22, 6), (20, 5), (18, 4)], [(47, 4), (24, 7)], [(49, 5), (26, 7)], [(51, 6), (28, 7)], []]
def fw_TOs3 : Nat := 4002538258451598468276000810084628089100958144401094778892135723602523746434335339493084198478065055758417270374419680133121
def fw_NXs3 : Nat := 19232870309362191752849181493971464795116710740348440969507980926536118057217183847768772691578912605872175865882461192912896
def fw_FSs3 : Nat := 271017374365495835026898095939725607
def fw_Es3 : Nat := 52
def fw_PR1 : Nat := 32767
def fw_FR1 : Nat := 31255511043973292241148180313407488
def fw_TT1 : Nat := 36488611337080643477004227639968257
def fw_RM1 (a b c : Nat) : Nat := (Nat.add (Nat.mul c 5212658496300993563292037124456448) (Nat.add (Nat.mul b 310698676526526814092263424) (Nat.add (Nat.mul a 65793) 0)))
def fw_PR2 : Nat := 32765
def fw_FR2 : Nat := 31255511043973292241148180313407488
def fw_TT2 : Nat := 36488611337080643477004227639968257
def fw_RM2 (a b c : Nat) : Nat := (Nat.add (Nat.mul c 5212658496300993563292037124456448) (Nat.add (Nat.mul b 310698676526526814092263424) (Nat.add (Nat.mul a 65793) 0)))
def fw_PR3 : Nat := 1048575
def fw_FR3 : Nat := 31255511043973292241148180313407488
def fw_TT3 : Nat := 40119652789475766381750019537216825749873559297
def fw_RM3 (a b c : Nat) : Nat := (Nat.add (Nat.mul c 5212658496300993563292037124456448) (Nat.add (Nat.mul b 310698676526526814092263424) (Nat.add (Nat.mul a 65537) 85948208552864045475580700495917485012958579200)))
def fw_PR4 : Nat := 1048575
def fw_FR4 : Nat := 31255511043973292241148180313407488
def fw_TT4 : Nat := 40119652789475766381750019537216825749873559297
def fw_RM4 (a b c : Nat) : Nat := (Nat.add (Nat.mul c 5212658496300993563292037124456448) (Nat.add (Nat.mul b 310698676526526814092263424) (Nat.add (Nat.mul a 65537) 85948208552864045475580700495917485012958576640)))
def fw_LF10 (a b c : Nat) : Nat := (Nat.add (Nat.mul c 26960358049567071831564234593151059434471056522609336320533481914368) (Nat.add (Nat.mul b 95782432828056470036404813049632508065954912077348864) (Nat.add (Nat.mul a 4295032833) 0)))
noncomputable def fw_LF11 (a b c : Nat) : Nat := (Nat.add (Nat.mul (fw_sg c) 26960358049567071831564234593151059434471056522609336320533481914368) (Nat.add (Nat.mul (fw_sg b) 95782432828056470036404813049632508065954912077348864) (Nat.add (Nat.mul (fw_sg a) 4295032833) 0)))
noncomputable def fw_LF12 (a b c : Nat) : Nat := (Nat.add (Nat.mul (fw_sg c) 26960358049567071831564234593151059434471056522609336320533481914368) (Nat.add (Nat.mul (fw_sg b) 95782432828056470036404813049632508065954912077348864) (Nat.add (Nat.mul (fw_sg a) 4295032833) 2136019628993862259248342756294513165756076283628325298397900363079415702325237508631772901933056)))
def fw_LF13 (a b c m : Nat) : Nat := (Nat.add (Nat.mul m 2136019628993862259248342756294513165756076283628325298397900363079415702325237508631772901933056) (Nat.add (Nat.mul c 26960358049567071831564234593151059434471056522609336320533481914368) (Nat.add (Nat.mul b 95782432828056470036404813049632508065954912077348864) (Nat.add (Nat.mul a 4295032833) 0))))
def fw_LF20 (a b c : Nat) : Nat := (Nat.add (Nat.mul c 411382416527817868523624185076157523108994392740010625008140288) (Nat.add (Nat.mul b 1461523938416389008123852738184089783721235841024) (Nat.add (Nat.mul a 65537) 0)))
noncomputable def fw_LF21 (a b c : Nat) : Nat := (Nat.add (Nat.mul (fw_sg c) 411382416527817868523624185076157523108994392740010625008140288) (Nat.add (Nat.mul (fw_sg b) 1461523938416389008123852738184089783721235841024) (Nat.add (Nat.mul (fw_sg a) 65537) 0)))
noncomputable def fw_LF22 (a b c : Nat) : Nat := (Nat.add (Nat.mul (fw_sg c) 411382416527817868523624185076157523108994392740010625008140288) (Nat.add (Nat.mul (fw_sg b) 1461523938416389008123852738184089783721235841024) (Nat.add (Nat.mul (fw_sg a) 65537) 32593072952176853321050151920997820522401066339543537878385930833120967137531089914425245696)))
def fw_LF30 (a b c : Nat) : Nat := (Nat.add (Nat.mul c 26960358049567071831564234593151059434471056522609336320533481914368) (Nat.add (Nat.mul b 95782432828056470036404813049632508065954912077348864) (Nat.add (Nat.mul a 4294967297) 488895596944238941925261110459261049577232017106936928230252644956696897138558481356124979200)))
noncomputable def fw_LF32 (a b c : Nat) : Nat := (Nat.add (Nat.mul (fw_sg c) 26960358049567071831564234593151059434471056522609336320533481914368) (Nat.add (Nat.mul (fw_sg b) 95782432828056470036404813049632508065954912077348864) (Nat.add (Nat.mul (fw_sg a) 4294967297) 2582289280694341059459682900074607251027261750802715958953582464513062531062763466671700954376794324336070682182036815872)))
def fw_LF33 (a b c : Nat) : Nat := (Nat.add (Nat.mul c 26960358049567071831564234593151059434471056522609336320533481914368) (Nat.add (Nat.mul b 95782432828056470036404813049632508065954912077348864) (Nat.add (Nat.mul a 4294967297) 488895596944238941925261110459261049577232017106936928230252644956696897138558481356124979200)))
def fw_LF40 (a b c : Nat) : Nat := (Nat.add (Nat.mul c 26960358049567071831564234593151059434471056522609336320533481914368) (Nat.add (Nat.mul b 95782432828056470036404813049632508065954912077348864) (Nat.add (Nat.mul a 4294967297) 488895596944238941925261110459261049577232017106936928230252644956696897138558481356124323840)))
noncomputable def fw_ac (f : Nat → Nat → Bool) : Bool := fw_all (fun a => fw_all (fun c => f a c) 10) 10
theorem fw_acE {f : Nat → Nat → Bool} (h : fw_ac f = true) {a c : Nat} (ha : a < 10) (hc : c < 10) : f a c = true := fw_allE (fw_allE h a ha) c hc
theorem fw_acB {F : Nat → Nat → Nat → Bool} (h0 : fw_ac (fun a c => F a 0 c) = true) (h1 : fw_ac (fun a c => F a 1 c) = true) (h2 : fw_ac (fun a c => F a 2 c) = true) (h3 : fw_ac (fun a c => F a 3 c) = true) {a b c : Nat} (ha : a < 10) (hb : b < 4) (hc : c < 10) : F a b c = true := by
  have e : b = 0 ∨ b = 1 ∨ b = 2 ∨ b = 3 := by omega
  rcases e with e | e | e | e <;> subst e
  · exact fw_acE h0 ha hc
  · exact fw_acE h1 ha hc
  · exact fw_acE h2 ha hc
  · exact fw_acE h3 ha hc
theorem fw_nc1 : fw_nc fw_adj1 fw_TO1 fw_NX1 fw_FS1 fw_E1 = true := by decide +kernel
theorem fw_nc2 : fw_nc fw_adj2 fw_TO2 fw_NX2 fw_FS2 fw_E2 = true := by decide +kernel
theorem fw_nc3 : fw_nc fw_adj3 fw_TO3 fw_NX3 fw_FS3 fw_E3 = true := by decide +kernel
theorem fw_ncs1 : fw_nc fw_adjs1 fw_TOs1 fw_NXs1 fw_FSs1 fw_Es1 = true := by decide +kernel
theorem fw_ncs2 : fw_nc fw_adjs2 fw_TOs2 fw_NXs2 fw_FSs2 fw_Es2 = true := by decide +kernel
theorem fw_ncs3 : fw_nc fw_adjs3 fw_TOs3 fw_NXs3 fw_FSs3 fw_Es3 = true := by decide +kernel
end
section
/-! evaluation: the engines on the plain net (written by mkconst.js) -/
theorem fw_v_p0_0 : fw_ac (fun a c => fw_solve fw_adj1 fw_TO1 fw_NX1 fw_FS1 fw_E1 0 7 0 (fw_LF10 a 0 c) (fun _ n => Nat.beq n (fw_val a 0 c))) = true := by decide +kernel
theorem fw_v_p0_1 : fw_ac (fun a c => fw_solve fw_adj1 fw_TO1 fw_NX1 fw_FS1 fw_E1 0 7 0 (fw_LF10 a 1 c) (fun _ n => Nat.beq n (fw_val a 1 c))) = true := by decide +kernel
theorem fw_v_p0_2 : fw_ac (fun a c => fw_solve fw_adj1 fw_TO1 fw_NX1 fw_FS1 fw_E1 0 7 0 (fw_LF10 a 2 c) (fun _ n => Nat.beq n (fw_val a 2 c))) = true := by decide +kernel
theorem fw_v_p0_3 : fw_ac (fun a c => fw_solve fw_adj1 fw_TO1 fw_NX1 fw_FS1 fw_E1 0 7 0 (fw_LF10 a 3 c) (fun _ n => Nat.beq n (fw_val a 3 c))) = true := by decide +kernel
theorem fw_k_p0 {a b c : Nat} (ha : a < 10) (hb : b < 4) (hc : c < 10) : fw_solve fw_adj1 fw_TO1 fw_NX1 fw_FS1 fw_E1 0 7 0 (fw_LF10 a b c) (fun _ n => Nat.beq n (fw_val a b c)) = true := fw_acB (F := fun a b c => fw_solve fw_adj1 fw_TO1 fw_NX1 fw_FS1 fw_E1 0 7 0 (fw_LF10 a b c) (fun _ n => Nat.beq n (fw_val a b c))) fw_v_p0_0 fw_v_p0_1 fw_v_p0_2 fw_v_p0_3 ha hb hc
theorem fw_v_p1_0 : fw_ac (fun a c => fw_solve fw_adj1 fw_TO1 fw_NX1 fw_FS1 fw_E1 0 7 1 (fw_LF10 a 0 c) (fun _ n => Nat.beq n (fw_val a 0 c))) = true := by decide +kernel
theorem fw_v_p1_1 : fw_ac (fun a c => fw_solve fw_adj1 fw_TO1 fw_NX1 fw_FS1 fw_E1 0 7 1 (fw_LF10 a 1 c) (fun _ n => Nat.beq n (fw_val a 1 c))) = true := by decide +kernel
theorem fw_v_p1_2 : fw_ac (fun a c => fw_solve fw_adj1 fw_TO1 fw_NX1 fw_FS1 fw_E1 0 7 1 (fw_LF10 a 2 c) (fun _ n => Nat.beq n (fw_val a 2 c))) = true := by decide +kernel
theorem fw_v_p1_3 : fw_ac (fun a c => fw_solve fw_adj1 fw_TO1 fw_NX1 fw_FS1 fw_E1 0 7 1 (fw_LF10 a 3 c) (fun _ n => Nat.beq n (fw_val a 3 c))) = true := by decide +kernel
theorem fw_k_p1 {a b c : Nat} (ha : a < 10) (hb : b < 4) (hc : c < 10) : fw_solve fw_adj1 fw_TO1 fw_NX1 fw_FS1 fw_E1 0 7 1 (fw_LF10 a b c) (fun _ n => Nat.beq n (fw_val a b c)) = true := fw_acB (F := fun a b c => fw_solve fw_adj1 fw_TO1 fw_NX1 fw_FS1 fw_E1 0 7 1 (fw_LF10 a b c) (fun _ n => Nat.beq n (fw_val a b c))) fw_v_p1_0 fw_v_p1_1 fw_v_p1_2 fw_v_p1_3 ha hb hc
theorem fw_v_p2_0 : fw_ac (fun a c => fw_solve fw_adj1 fw_TO1 fw_NX1 fw_FS1 fw_E1 0 7 2 (fw_LF10 a 0 c) (fun _ n => Nat.beq n (fw_val a 0 c))) = true := by decide +kernel
theorem fw_v_p2_1 : fw_ac (fun a c => fw_solve fw_adj1 fw_TO1 fw_NX1 fw_FS1 fw_E1 0 7 2 (fw_LF10 a 1 c) (fun _ n => Nat.beq n (fw_val a 1 c))) = true := by decide +kernel
theorem fw_v_p2_2 : fw_ac (fun a c => fw_solve fw_adj1 fw_TO1 fw_NX1 fw_FS1 fw_E1 0 7 2 (fw_LF10 a 2 c) (fun _ n => Nat.beq n (fw_val a 2 c))) = true := by decide +kernel
theorem fw_v_p2_3 : fw_ac (fun a c => fw_solve fw_adj1 fw_TO1 fw_NX1 fw_FS1 fw_E1 0 7 2 (fw_LF10 a 3 c) (fun _ n => Nat.beq n (fw_val a 3 c))) = true := by decide +kernel
theorem fw_k_p2 {a b c : Nat} (ha : a < 10) (hb : b < 4) (hc : c < 10) : fw_solve fw_adj1 fw_TO1 fw_NX1 fw_FS1 fw_E1 0 7 2 (fw_LF10 a b c) (fun _ n => Nat.beq n (fw_val a b c)) = true := fw_acB (F := fun a b c => fw_solve fw_adj1 fw_TO1 fw_NX1 fw_FS1 fw_E1 0 7 2 (fw_LF10 a b c) (fun _ n => Nat.beq n (fw_val a b c))) fw_v_p2_0 fw_v_p2_1 fw_v_p2_2 fw_v_p2_3 ha hb hc
theorem fw_v_p3_0 : fw_ac (fun a c => fw_solve fw_adj1 fw_TO1 fw_NX1 fw_FS1 fw_E1 0 7 3 (fw_LF10 a 0 c) (fun _ n => Nat.beq n (fw_val a 0 c))) = true := by decide +kernel
theorem fw_v_p3_1 : fw_ac (fun a c => fw_solve fw_adj1 fw_TO1 fw_NX1 fw_FS1 fw_E1 0 7 3 (fw_LF10 a 1 c) (fun _ n => Nat.beq n (fw_val a 1 c))) = true := by decide +kernel
theorem fw_v_p3_2 : fw_ac (fun a c => fw_solve fw_adj1 fw_TO1 fw_NX1 fw_FS1 fw_E1 0 7 3 (fw_LF10 a 2 c) (fun _ n => Nat.beq n (fw_val a 2 c))) = true := by decide +kernel
theorem fw_v_p3_3 : fw_ac (fun a c => fw_solve fw_adj1 fw_TO1 fw_NX1 fw_FS1 fw_E1 0 7 3 (fw_LF10 a 3 c) (fun _ n => Nat.beq n (fw_val a 3 c))) = true := by decide +kernel
theorem fw_k_p3 {a b c : Nat} (ha : a < 10) (hb : b < 4) (hc : c < 10) : fw_solve fw_adj1 fw_TO1 fw_NX1 fw_FS1 fw_E1 0 7 3 (fw_LF10 a b c) (fun _ n => Nat.beq n (fw_val a b c)) = true := fw_acB (F := fun a b c => fw_solve fw_adj1 fw_TO1 fw_NX1 fw_FS1 fw_E1 0 7 3 (fw_LF10 a b c) (fun _ n => Nat.beq n (fw_val a b c))) fw_v_p3_0 fw_v_p3_1 fw_v_p3_2 fw_v_p3_3 ha hb hc
theorem fw_v_p4_0 : fw_ac (fun a c => fw_solve fw_adj1 fw_TO1 fw_NX1 fw_FS1 fw_E1 0 7 4 (fw_LF10 a 0 c) (fun _ n => Nat.beq n (fw_val a 0 c))) = true := by decide +kernel
theorem fw_v_p4_1 : fw_ac (fun a c => fw_solve fw_adj1 fw_TO1 fw_NX1 fw_FS1 fw_E1 0 7 4 (fw_LF10 a 1 c) (fun _ n => Nat.beq n (fw_val a 1 c))) = true := by decide +kernel
theorem fw_v_p4_2 : fw_ac (fun a c => fw_solve fw_adj1 fw_TO1 fw_NX1 fw_FS1 fw_E1 0 7 4 (fw_LF10 a 2 c) (fun _ n => Nat.beq n (fw_val a 2 c))) = true := by decide +kernel
theorem fw_v_p4_3 : fw_ac (fun a c => fw_solve fw_adj1 fw_TO1 fw_NX1 fw_FS1 fw_E1 0 7 4 (fw_LF10 a 3 c) (fun _ n => Nat.beq n (fw_val a 3 c))) = true := by decide +kernel
theorem fw_k_p4 {a b c : Nat} (ha : a < 10) (hb : b < 4) (hc : c < 10) : fw_solve fw_adj1 fw_TO1 fw_NX1 fw_FS1 fw_E1 0 7 4 (fw_LF10 a b c) (fun _ n => Nat.beq n (fw_val a b c)) = true := fw_acB (F := fun a b c => fw_solve fw_adj1 fw_TO1 fw_NX1 fw_FS1 fw_E1 0 7 4 (fw_LF10 a b c) (fun _ n => Nat.beq n (fw_val a b c))) fw_v_p4_0 fw_v_p4_1 fw_v_p4_2 fw_v_p4_3 ha hb hc
theorem fw_v_p5_0 : fw_ac (fun a c => fw_solve fw_adj1 fw_TO1 fw_NX1 fw_FS1 fw_E1 0 7 5 (fw_LF10 a 0 c) (fun _ n => Nat.beq n (fw_val a 0 c))) = true := by decide +kernel
theorem fw_v_p5_1 : fw_ac (fun a c => fw_solve fw_adj1 fw_TO1 fw_NX1 fw_FS1 fw_E1 0 7 5 (fw_LF10 a 1 c) (fun _ n => Nat.beq n (fw_val a 1 c))) = true := by decide +kernel
theorem fw_v_p5_2 : fw_ac (fun a c => fw_solve fw_adj1 fw_TO1 fw_NX1 fw_FS1 fw_E1 0 7 5 (fw_LF10 a 2 c) (fun _ n => Nat.beq n (fw_val a 2 c))) = true := by decide +kernel
theorem fw_v_p5_3 : fw_ac (fun a c => fw_solve fw_adj1 fw_TO1 fw_NX1 fw_FS1 fw_E1 0 7 5 (fw_LF10 a 3 c) (fun _ n => Nat.beq n (fw_val a 3 c))) = true := by decide +kernel
theorem fw_k_p5 {a b c : Nat} (ha : a < 10) (hb : b < 4) (hc : c < 10) : fw_solve fw_adj1 fw_TO1 fw_NX1 fw_FS1 fw_E1 0 7 5 (fw_LF10 a b c) (fun _ n => Nat.beq n (fw_val a b c)) = true := fw_acB (F := fun a b c => fw_solve fw_adj1 fw_TO1 fw_NX1 fw_FS1 fw_E1 0 7 5 (fw_LF10 a b c) (fun _ n => Nat.beq n (fw_val a b c))) fw_v_p5_0 fw_v_p5_1 fw_v_p5_2 fw_v_p5_3 ha hb hc
theorem fw_v_p6_0 : fw_ac (fun a c => fw_solve fw_adj1 fw_TO1 fw_NX1 fw_FS1 fw_E1 0 7 6 (fw_LF10 a 0 c) (fun _ n => Nat.beq n (fw_val a 0 c))) = true := by decide +kernel
theorem fw_v_p6_1 : fw_ac (fun a c => fw_solve fw_adj1 fw_TO1 fw_NX1 fw_FS1 fw_E1 0 7 6 (fw_LF10 a 1 c) (fun _ n => Nat.beq n (fw_val a 1 c))) = true := by decide +kernel
theorem fw_v_p6_2 : fw_ac (fun a c => fw_solve fw_adj1 fw_TO1 fw_NX1 fw_FS1 fw_E1 0 7 6 (fw_LF10 a 2 c) (fun _ n => Nat.beq n (fw_val a 2 c))) = true := by decide +kernel
theorem fw_v_p6_3 : fw_ac (fun a c => fw_solve fw_adj1 fw_TO1 fw_NX1 fw_FS1 fw_E1 0 7 6 (fw_LF10 a 3 c) (fun _ n => Nat.beq n (fw_val a 3 c))) = true := by decide +kernel
theorem fw_k_p6 {a b c : Nat} (ha : a < 10) (hb : b < 4) (hc : c < 10) : fw_solve fw_adj1 fw_TO1 fw_NX1 fw_FS1 fw_E1 0 7 6 (fw_LF10 a b c) (fun _ n => Nat.beq n (fw_val a b c)) = true := fw_acB (F := fun a b c => fw_solve fw_adj1 fw_TO1 fw_NX1 fw_FS1 fw_E1 0 7 6 (fw_LF10 a b c) (fun _ n => Nat.beq n (fw_val a b c))) fw_v_p6_0 fw_v_p6_1 fw_v_p6_2 fw_v_p6_3 ha hb hc
theorem fw_v_r0_0 : fw_ac (fun a c => fw_solve fw_adj1 fw_TO1 fw_NX1 fw_FS1 fw_E1 7 0 0 (fw_LF10 a 0 c) (fun _ n => Nat.beq n 0)) = true := by decide +kernel
theorem fw_v_r0_1 : fw_ac (fun a c => fw_solve fw_adj1 fw_TO1 fw_NX1 fw_FS1 fw_E1 7 0 0 (fw_LF10 a 1 c) (fun _ n => Nat.beq n 0)) = true := by decide +kernel
theorem fw_v_r0_2 : fw_ac (fun a c => fw_solve fw_adj1 fw_TO1 fw_NX1 fw_FS1 fw_E1 7 0 0 (fw_LF10 a 2 c) (fun _ n => Nat.beq n 0)) = true := by decide +kernel
theorem fw_v_r0_3 : fw_ac (fun a c => fw_solve fw_adj1 fw_TO1 fw_NX1 fw_FS1 fw_E1 7 0 0 (fw_LF10 a 3 c) (fun _ n => Nat.beq n 0)) = true := by decide +kernel
theorem fw_k_r0 {a b c : Nat} (ha : a < 10) (hb : b < 4) (hc : c < 10) : fw_solve fw_adj1 fw_TO1 fw_NX1 fw_FS1 fw_E1 7 0 0 (fw_LF10 a b c) (fun _ n => Nat.beq n 0) = true := fw_acB (F := fun a b c => fw_solve fw_adj1 fw_TO1 fw_NX1 fw_FS1 fw_E1 7 0 0 (fw_LF10 a b c) (fun _ n => Nat.beq n 0)) fw_v_r0_0 fw_v_r0_1 fw_v_r0_2 fw_v_r0_3 ha hb hc
theorem fw_v_r1_0 : fw_ac (fun a c => fw_solve fw_adj1 fw_TO1 fw_NX1 fw_FS1 fw_E1 7 0 1 (fw_LF10 a 0 c) (fun _ n => Nat.beq n 0)) = true := by decide +kernel
theorem fw_v_r1_1 : fw_ac (fun a c => fw_solve fw_adj1 fw_TO1 fw_NX1 fw_FS1 fw_E1 7 0 1 (fw_LF10 a 1 c) (fun _ n => Nat.beq n 0)) = true := by decide +kernel
theorem fw_v_r1_2 : fw_ac (fun a c => fw_solve fw_adj1 fw_TO1 fw_NX1 fw_FS1 fw_E1 7 0 1 (fw_LF10 a 2 c) (fun _ n => Nat.beq n 0)) = true := by decide +kernel
theorem fw_v_r1_3 : fw_ac (fun a c => fw_solve fw_adj1 fw_TO1 fw_NX1 fw_FS1 fw_E1 7 0 1 (fw_LF10 a 3 c) (fun _ n => Nat.beq n 0)) = true := by decide +kernel
theorem fw_k_r1 {a b c : Nat} (ha : a < 10) (hb : b < 4) (hc : c < 10) : fw_solve fw_adj1 fw_TO1 fw_NX1 fw_FS1 fw_E1 7 0 1 (fw_LF10 a b c) (fun _ n => Nat.beq n 0) = true := fw_acB (F := fun a b c => fw_solve fw_adj1 fw_TO1 fw_NX1 fw_FS1 fw_E1 7 0 1 (fw_LF10 a b c) (fun _ n => Nat.beq n 0)) fw_v_r1_0 fw_v_r1_1 fw_v_r1_2 fw_v_r1_3 ha hb hc
theorem fw_v_r2_0 : fw_ac (fun a c => fw_solve fw_adj1 fw_TO1 fw_NX1 fw_FS1 fw_E1 7 0 2 (fw_LF10 a 0 c) (fun _ n => Nat.beq n 0)) = true := by decide +kernel
theorem fw_v_r2_1 : fw_ac (fun a c => fw_solve fw_adj1 fw_TO1 fw_NX1 fw_FS1 fw_E1 7 0 2 (fw_LF10 a 1 c) (fun _ n => Nat.beq n 0)) = true := by decide +kernel
theorem fw_v_r2_2 : fw_ac (fun a c => fw_solve fw_adj1 fw_TO1 fw_NX1 fw_FS1 fw_E1 7 0 2 (fw_LF10 a 2 c) (fun _ n => Nat.beq n 0)) = true := by decide +kernel
theorem fw_v_r2_3 : fw_ac (fun a c => fw_solve fw_adj1 fw_TO1 fw_NX1 fw_FS1 fw_E1 7 0 2 (fw_LF10 a 3 c) (fun _ n => Nat.beq n 0)) = true := by decide +kernel
theorem fw_k_r2 {a b c : Nat} (ha : a < 10) (hb : b < 4) (hc : c < 10) : fw_solve fw_adj1 fw_TO1 fw_NX1 fw_FS1 fw_E1 7 0 2 (fw_LF10 a b c) (fun _ n => Nat.beq n 0) = true := fw_acB (F := fun a b c => fw_solve fw_adj1 fw_TO1 fw_NX1 fw_FS1 fw_E1 7 0 2 (fw_LF10 a b c) (fun _ n => Nat.beq n 0)) fw_v_r2_0 fw_v_r2_1 fw_v_r2_2 fw_v_r2_3 ha hb hc
theorem fw_v_r3_0 : fw_ac (fun a c => fw_solve fw_adj1 fw_TO1 fw_NX1 fw_FS1 fw_E1 7 0 3 (fw_LF10 a 0 c) (fun _ n => Nat.beq n 0)) = true := by decide +kernel
theorem fw_v_r3_1 : fw_ac (fun a c => fw_solve fw_adj1 fw_TO1 fw_NX1 fw_FS1 fw_E1 7 0 3 (fw_LF10 a 1 c) (fun _ n => Nat.beq n 0)) = true := by decide +kernel
theorem fw_v_r3_2 : fw_ac (fun a c => fw_solve fw_adj1 fw_TO1 fw_NX1 fw_FS1 fw_E1 7 0 3 (fw_LF10 a 2 c) (fun _ n => Nat.beq n 0)) = true := by decide +kernel
theorem fw_v_r3_3 : fw_ac (fun a c => fw_solve fw_adj1 fw_TO1 fw_NX1 fw_FS1 fw_E1 7 0 3 (fw_LF10 a 3 c) (fun _ n => Nat.beq n 0)) = true := by decide +kernel
theorem fw_k_r3 {a b c : Nat} (ha : a < 10) (hb : b < 4) (hc : c < 10) : fw_solve fw_adj1 fw_TO1 fw_NX1 fw_FS1 fw_E1 7 0 3 (fw_LF10 a b c) (fun _ n => Nat.beq n 0) = true := fw_acB (F := fun a b c => fw_solve fw_adj1 fw_TO1 fw_NX1 fw_FS1 fw_E1 7 0 3 (fw_LF10 a b c) (fun _ n => Nat.beq n 0)) fw_v_r3_0 fw_v_r3_1 fw_v_r3_2 fw_v_r3_3 ha hb hc
theorem fw_v_r4_0 : fw_ac (fun a c => fw_solve fw_adj1 fw_TO1 fw_NX1 fw_FS1 fw_E1 7 0 4 (fw_LF10 a 0 c) (fun _ n => Nat.beq n 0)) = true := by decide +kernel
theorem fw_v_r4_1 : fw_ac (fun a c => fw_solve fw_adj1 fw_TO1 fw_NX1 fw_FS1 fw_E1 7 0 4 (fw_LF10 a 1 c) (fun _ n => Nat.beq n 0)) = true := by decide +kernel
theorem fw_v_r4_2 : fw_ac (fun a c => fw_solve fw_adj1 fw_TO1 fw_NX1 fw_FS1 fw_E1 7 0 4 (fw_LF10 a 2 c) (fun _ n => Nat.beq n 0)) = true := by decide +kernel
theorem fw_v_r4_3 : fw_ac (fun a c => fw_solve fw_adj1 fw_TO1 fw_NX1 fw_FS1 fw_E1 7 0 4 (fw_LF10 a 3 c) (fun _ n => Nat.beq n 0)) = true := by decide +kernel
theorem fw_k_r4 {a b c : Nat} (ha : a < 10) (hb : b < 4) (hc : c < 10) : fw_solve fw_adj1 fw_TO1 fw_NX1 fw_FS1 fw_E1 7 0 4 (fw_LF10 a b c) (fun _ n => Nat.beq n 0) = true := fw_acB (F := fun a b c => fw_solve fw_adj1 fw_TO1 fw_NX1 fw_FS1 fw_E1 7 0 4 (fw_LF10 a b c) (fun _ n => Nat.beq n 0)) fw_v_r4_0 fw_v_r4_1 fw_v_r4_2 fw_v_r4_3 ha hb hc
theorem fw_v_r5_0 : fw_ac (fun a c => fw_solve fw_adj1 fw_TO1 fw_NX1 fw_FS1 fw_E1 7 0 5 (fw_LF10 a 0 c) (fun _ n => Nat.beq n 0)) = true := by decide +kernel
theorem fw_v_r5_1 : fw_ac (fun a c => fw_solve fw_adj1 fw_TO1 fw_NX1 fw_FS1 fw_E1 7 0 5 (fw_LF10 a 1 c) (fun _ n => Nat.beq n 0)) = true := by decide +kernel
theorem fw_v_r5_2 : fw_ac (fun a c => fw_solve fw_adj1 fw_TO1 fw_NX1 fw_FS1 fw_E1 7 0 5 (fw_LF10 a 2 c) (fun _ n => Nat.beq n 0)) = true := by decide +kernel
theorem fw_v_r5_3 : fw_ac (fun a c => fw_solve fw_adj1 fw_TO1 fw_NX1 fw_FS1 fw_E1 7 0 5 (fw_LF10 a 3 c) (fun _ n => Nat.beq n 0)) = true := by decide +kernel
theorem fw_k_r5 {a b c : Nat} (ha : a < 10) (hb : b < 4) (hc : c < 10) : fw_solve fw_adj1 fw_TO1 fw_NX1 fw_FS1 fw_E1 7 0 5 (fw_LF10 a b c) (fun _ n => Nat.beq n 0) = true := fw_acB (F := fun a b c => fw_solve fw_adj1 fw_TO1 fw_NX1 fw_FS1 fw_E1 7 0 5 (fw_LF10 a b c) (fun _ n => Nat.beq n 0)) fw_v_r5_0 fw_v_r5_1 fw_v_r5_2 fw_v_r5_3 ha hb hc
theorem fw_v_r6_0 : fw_ac (fun a c => fw_solve fw_adj1 fw_TO1 fw_NX1 fw_FS1 fw_E1 7 0 6 (fw_LF10 a 0 c) (fun _ n => Nat.beq n 0)) = true := by decide +kernel
theorem fw_v_r6_1 : fw_ac (fun a c => fw_solve fw_adj1 fw_TO1 fw_NX1 fw_FS1 fw_E1 7 0 6 (fw_LF10 a 1 c) (fun _ n => Nat.beq n 0)) = true := by decide +kernel
theorem fw_v_r6_2 : fw_ac (fun a c => fw_solve fw_adj1 fw_TO1 fw_NX1 fw_FS1 fw_E1 7 0 6 (fw_LF10 a 2 c) (fun _ n => Nat.beq n 0)) = true := by decide +kernel
theorem fw_v_r6_3 : fw_ac (fun a c => fw_solve fw_adj1 fw_TO1 fw_NX1 fw_FS1 fw_E1 7 0 6 (fw_LF10 a 3 c) (fun _ n => Nat.beq n 0)) = true := by decide +kernel
theorem fw_k_r6 {a b c : Nat} (ha : a < 10) (hb : b < 4) (hc : c < 10) : fw_solve fw_adj1 fw_TO1 fw_NX1 fw_FS1 fw_E1 7 0 6 (fw_LF10 a b c) (fun _ n => Nat.beq n 0) = true := fw_acB (F := fun a b c => fw_solve fw_adj1 fw_TO1 fw_NX1 fw_FS1 fw_E1 7 0 6 (fw_LF10 a b c) (fun _ n => Nat.beq n 0)) fw_v_r6_0 fw_v_r6_1 fw_v_r6_2 fw_v_r6_3 ha hb hc
end
section
/-! evaluation: sets, the other nets (written by mkconst.js) -/
theorem fw_v_least_0 : fw_ac (fun a c => fw_solve fw_adj1 fw_TO1 fw_NX1 fw_FS1 fw_E1 0 7 1 (fw_LF10 a 0 c) (fun LF' _ => fw_rds (fw_tl fw_TO1) (fw_hd fw_TO1) LF' fw_E1 (fun S => Nat.beq S (fw_fL a 0 c)) 16 (Nat.shiftLeft 1 0))) = true := by decide +kernel
theorem fw_v_least_1 : fw_ac (fun a c => fw_solve fw_adj1 fw_TO1 fw_NX1 fw_FS1 fw_E1 0 7 1 (fw_LF10 a 1 c) (fun LF' _ => fw_rds (fw_tl fw_TO1) (fw_hd fw_TO1) LF' fw_E1 (fun S => Nat.beq S (fw_fL a 1 c)) 16 (Nat.shiftLeft 1 0))) = true := by decide +kernel
theorem fw_v_least_2 : fw_ac (fun a c => fw_solve fw_adj1 fw_TO1 fw_NX1 fw_FS1 fw_E1 0 7 1 (fw_LF10 a 2 c) (fun LF' _ => fw_rds (fw_tl fw_TO1) (fw_hd fw_TO1) LF' fw_E1 (fun S => Nat.beq S (fw_fL a 2 c)) 16 (Nat.shiftLeft 1 0))) = true := by decide +kernel
theorem fw_v_least_3 : fw_ac (fun a c => fw_solve fw_adj1 fw_TO1 fw_NX1 fw_FS1 fw_E1 0 7 1 (fw_LF10 a 3 c) (fun LF' _ => fw_rds (fw_tl fw_TO1) (fw_hd fw_TO1) LF' fw_E1 (fun S => Nat.beq S (fw_fL a 3 c)) 16 (Nat.shiftLeft 1 0))) = true := by decide +kernel
theorem fw_k_least {a b c : Nat} (ha : a < 10) (hb : b < 4) (hc : c < 10) : fw_solve fw_adj1 fw_TO1 fw_NX1 fw_FS1 fw_E1 0 7 1 (fw_LF10 a b c) (fun LF' _ => fw_rds (fw_tl fw_TO1) (fw_hd fw_TO1) LF' fw_E1 (fun S => Nat.beq S (fw_fL a b c)) 16 (Nat.shiftLeft 1 0)) = true := fw_acB (F := fun a b c => fw_solve fw_adj1 fw_TO1 fw_NX1 fw_FS1 fw_E1 0 7 1 (fw_LF10 a b c) (fun LF' _ => fw_rds (fw_tl fw_TO1) (fw_hd fw_TO1) LF' fw_E1 (fun S => Nat.beq S (fw_fL a b c)) 16 (Nat.shiftLeft 1 0))) fw_v_least_0 fw_v_least_1 fw_v_least_2 fw_v_least_3 ha hb hc
theorem fw_v_most_0 : fw_ac (fun a c => fw_solve fw_adj1 fw_TO1 fw_NX1 fw_FS1 fw_E1 0 7 3 (fw_LF10 a 0 c) (fun LF' _ => fw_rds (fw_hd fw_TO1) (fw_tl fw_TO1) LF' fw_E1 (fun S => Nat.beq S (fw_fM a 0 c)) 16 (Nat.shiftLeft 1 7))) = true := by decide +kernel
theorem fw_v_most_1 : fw_ac (fun a c => fw_solve fw_adj1 fw_TO1 fw_NX1 fw_FS1 fw_E1 0 7 3 (fw_LF10 a 1 c) (fun LF' _ => fw_rds (fw_hd fw_TO1) (fw_tl fw_TO1) LF' fw_E1 (fun S => Nat.beq S (fw_fM a 1 c)) 16 (Nat.shiftLeft 1 7))) = true := by decide +kernel
theorem fw_v_most_2 : fw_ac (fun a c => fw_solve fw_adj1 fw_TO1 fw_NX1 fw_FS1 fw_E1 0 7 3 (fw_LF10 a 2 c) (fun LF' _ => fw_rds (fw_hd fw_TO1) (fw_tl fw_TO1) LF' fw_E1 (fun S => Nat.beq S (fw_fM a 2 c)) 16 (Nat.shiftLeft 1 7))) = true := by decide +kernel
theorem fw_v_most_3 : fw_ac (fun a c => fw_solve fw_adj1 fw_TO1 fw_NX1 fw_FS1 fw_E1 0 7 3 (fw_LF10 a 3 c) (fun LF' _ => fw_rds (fw_hd fw_TO1) (fw_tl fw_TO1) LF' fw_E1 (fun S => Nat.beq S (fw_fM a 3 c)) 16 (Nat.shiftLeft 1 7))) = true := by decide +kernel
theorem fw_k_most {a b c : Nat} (ha : a < 10) (hb : b < 4) (hc : c < 10) : fw_solve fw_adj1 fw_TO1 fw_NX1 fw_FS1 fw_E1 0 7 3 (fw_LF10 a b c) (fun LF' _ => fw_rds (fw_hd fw_TO1) (fw_tl fw_TO1) LF' fw_E1 (fun S => Nat.beq S (fw_fM a b c)) 16 (Nat.shiftLeft 1 7)) = true := fw_acB (F := fun a b c => fw_solve fw_adj1 fw_TO1 fw_NX1 fw_FS1 fw_E1 0 7 3 (fw_LF10 a b c) (fun LF' _ => fw_rds (fw_hd fw_TO1) (fw_tl fw_TO1) LF' fw_E1 (fun S => Nat.beq S (fw_fM a b c)) 16 (Nat.shiftLeft 1 7))) fw_v_most_0 fw_v_most_1 fw_v_most_2 fw_v_most_3 ha hb hc
theorem fw_v_tight_0 : fw_ac (fun a c => fw_solve fw_adj1 fw_TO1 fw_NX1 fw_FS1 fw_E1 0 7 6 (fw_LF10 a 0 c) (fun LF' _ => fw_tg fw_PR1 fw_FR1 fw_TT1 fw_TO1 LF' fw_E1 0 7 (fun S => Nat.beq S (fw_fT a 0 c)) 20 0 0)) = true := by decide +kernel
theorem fw_v_tight_1 : fw_ac (fun a c => fw_solve fw_adj1 fw_TO1 fw_NX1 fw_FS1 fw_E1 0 7 6 (fw_LF10 a 1 c) (fun LF' _ => fw_tg fw_PR1 fw_FR1 fw_TT1 fw_TO1 LF' fw_E1 0 7 (fun S => Nat.beq S (fw_fT a 1 c)) 20 0 0)) = true := by decide +kernel
theorem fw_v_tight_2 : fw_ac (fun a c => fw_solve fw_adj1 fw_TO1 fw_NX1 fw_FS1 fw_E1 0 7 6 (fw_LF10 a 2 c) (fun LF' _ => fw_tg fw_PR1 fw_FR1 fw_TT1 fw_TO1 LF' fw_E1 0 7 (fun S => Nat.beq S (fw_fT a 2 c)) 20 0 0)) = true := by decide +kernel
theorem fw_v_tight_3 : fw_ac (fun a c => fw_solve fw_adj1 fw_TO1 fw_NX1 fw_FS1 fw_E1 0 7 6 (fw_LF10 a 3 c) (fun LF' _ => fw_tg fw_PR1 fw_FR1 fw_TT1 fw_TO1 LF' fw_E1 0 7 (fun S => Nat.beq S (fw_fT a 3 c)) 20 0 0)) = true := by decide +kernel
theorem fw_k_tight {a b c : Nat} (ha : a < 10) (hb : b < 4) (hc : c < 10) : fw_solve fw_adj1 fw_TO1 fw_NX1 fw_FS1 fw_E1 0 7 6 (fw_LF10 a b c) (fun LF' _ => fw_tg fw_PR1 fw_FR1 fw_TT1 fw_TO1 LF' fw_E1 0 7 (fun S => Nat.beq S (fw_fT a b c)) 20 0 0) = true := fw_acB (F := fun a b c => fw_solve fw_adj1 fw_TO1 fw_NX1 fw_FS1 fw_E1 0 7 6 (fw_LF10 a b c) (fun LF' _ => fw_tg fw_PR1 fw_FR1 fw_TT1 fw_TO1 LF' fw_E1 0 7 (fun S => Nat.beq S (fw_fT a b c)) 20 0 0)) fw_v_tight_0 fw_v_tight_1 fw_v_tight_2 fw_v_tight_3 ha hb hc
theorem fw_v_wid_0 : fw_ac (fun a c => fw_solve fw_adj1 fw_TO1 fw_NX1 fw_FS1 fw_E1 0 7 5 (fw_LF10 a 0 c) (fun LF' _ => fw_rds (fw_tl fw_TO1) (fw_hd fw_TO1) LF' fw_E1 (fun near => fw_rds (fw_hd fw_TO1) (fw_tl fw_TO1) LF' fw_E1 (fun far => fw_wd fw_PR1 fw_FR1 fw_TT1 near far (fun S => Nat.beq S (fw_fW a 0 c)) 20 0 0) 16 (Nat.shiftLeft 1 7)) 16 (Nat.shiftLeft 1 0))) = true := by decide +kernel
theorem fw_v_wid_1 : fw_ac (fun a c => fw_solve fw_adj1 fw_TO1 fw_NX1 fw_FS1 fw_E1 0 7 5 (fw_LF10 a 1 c) (fun LF' _ => fw_rds (fw_tl fw_TO1) (fw_hd fw_TO1) LF' fw_E1 (fun near => fw_rds (fw_hd fw_TO1) (fw_tl fw_TO1) LF' fw_E1 (fun far => fw_wd fw_PR1 fw_FR1 fw_TT1 near far (fun S => Nat.beq S (fw_fW a 1 c)) 20 0 0) 16 (Nat.shiftLeft 1 7)) 16 (Nat.shiftLeft 1 0))) = true := by decide +kernel
theorem fw_v_wid_2 : fw_ac (fun a c => fw_solve fw_adj1 fw_TO1 fw_NX1 fw_FS1 fw_E1 0 7 5 (fw_LF10 a 2 c) (fun LF' _ => fw_rds (fw_tl fw_TO1) (fw_hd fw_TO1) LF' fw_E1 (fun near => fw_rds (fw_hd fw_TO1) (fw_tl fw_TO1) LF' fw_E1 (fun far => fw_wd fw_PR1 fw_FR1 fw_TT1 near far (fun S => Nat.beq S (fw_fW a 2 c)) 20 0 0) 16 (Nat.shiftLeft 1 7)) 16 (Nat.shiftLeft 1 0))) = true := by decide +kernel
theorem fw_v_wid_3 : fw_ac (fun a c => fw_solve fw_adj1 fw_TO1 fw_NX1 fw_FS1 fw_E1 0 7 5 (fw_LF10 a 3 c) (fun LF' _ => fw_rds (fw_tl fw_TO1) (fw_hd fw_TO1) LF' fw_E1 (fun near => fw_rds (fw_hd fw_TO1) (fw_tl fw_TO1) LF' fw_E1 (fun far => fw_wd fw_PR1 fw_FR1 fw_TT1 near far (fun S => Nat.beq S (fw_fW a 3 c)) 20 0 0) 16 (Nat.shiftLeft 1 7)) 16 (Nat.shiftLeft 1 0))) = true := by decide +kernel
theorem fw_k_wid {a b c : Nat} (ha : a < 10) (hb : b < 4) (hc : c < 10) : fw_solve fw_adj1 fw_TO1 fw_NX1 fw_FS1 fw_E1 0 7 5 (fw_LF10 a b c) (fun LF' _ => fw_rds (fw_tl fw_TO1) (fw_hd fw_TO1) LF' fw_E1 (fun near => fw_rds (fw_hd fw_TO1) (fw_tl fw_TO1) LF' fw_E1 (fun far => fw_wd fw_PR1 fw_FR1 fw_TT1 near far (fun S => Nat.beq S (fw_fW a b c)) 20 0 0) 16 (Nat.shiftLeft 1 7)) 16 (Nat.shiftLeft 1 0)) = true := fw_acB (F := fun a b c => fw_solve fw_adj1 fw_TO1 fw_NX1 fw_FS1 fw_E1 0 7 5 (fw_LF10 a b c) (fun LF' _ => fw_rds (fw_tl fw_TO1) (fw_hd fw_TO1) LF' fw_E1 (fun near => fw_rds (fw_hd fw_TO1) (fw_tl fw_TO1) LF' fw_E1 (fun far => fw_wd fw_PR1 fw_FR1 fw_TT1 near far (fun S => Nat.beq S (fw_fW a b c)) 20 0 0) 16 (Nat.shiftLeft 1 7)) 16 (Nat.shiftLeft 1 0))) fw_v_wid_0 fw_v_wid_1 fw_v_wid_2 fw_v_wid_3 ha hb hc
theorem fw_v_few_0 : fw_ac (fun a c => fw_solve fw_adj1 fw_TO1 fw_NX1 fw_FS1 fw_E1 0 7 2 (fw_LF11 a 0 c) (fun LF' _ => fw_rds (fw_tl fw_TO1) (fw_hd fw_TO1) LF' fw_E1 (fun side => fw_fe fw_PR1 fw_FR1 fw_TT1 (fw_RM1 a 0 c) side (fun S => Nat.beq S (fw_all3 3 a 0 c)) 20 0 0) 16 (Nat.shiftLeft 1 0))) = true := by decide +kernel
theorem fw_v_few_1 : fw_ac (fun a c => fw_solve fw_adj1 fw_TO1 fw_NX1 fw_FS1 fw_E1 0 7 2 (fw_LF11 a 1 c) (fun LF' _ => fw_rds (fw_tl fw_TO1) (fw_hd fw_TO1) LF' fw_E1 (fun side => fw_fe fw_PR1 fw_FR1 fw_TT1 (fw_RM1 a 1 c) side (fun S => Nat.beq S (fw_all3 3 a 1 c)) 20 0 0) 16 (Nat.shiftLeft 1 0))) = true := by decide +kernel
theorem fw_v_few_2 : fw_ac (fun a c => fw_solve fw_adj1 fw_TO1 fw_NX1 fw_FS1 fw_E1 0 7 2 (fw_LF11 a 2 c) (fun LF' _ => fw_rds (fw_tl fw_TO1) (fw_hd fw_TO1) LF' fw_E1 (fun side => fw_fe fw_PR1 fw_FR1 fw_TT1 (fw_RM1 a 2 c) side (fun S => Nat.beq S (fw_all3 3 a 2 c)) 20 0 0) 16 (Nat.shiftLeft 1 0))) = true := by decide +kernel
theorem fw_v_few_3 : fw_ac (fun a c => fw_solve fw_adj1 fw_TO1 fw_NX1 fw_FS1 fw_E1 0 7 2 (fw_LF11 a 3 c) (fun LF' _ => fw_rds (fw_tl fw_TO1) (fw_hd fw_TO1) LF' fw_E1 (fun side => fw_fe fw_PR1 fw_FR1 fw_TT1 (fw_RM1 a 3 c) side (fun S => Nat.beq S (fw_all3 3 a 3 c)) 20 0 0) 16 (Nat.shiftLeft 1 0))) = true := by decide +kernel
theorem fw_k_few {a b c : Nat} (ha : a < 10) (hb : b < 4) (hc : c < 10) : fw_solve fw_adj1 fw_TO1 fw_NX1 fw_FS1 fw_E1 0 7 2 (fw_LF11 a b c) (fun LF' _ => fw_rds (fw_tl fw_TO1) (fw_hd fw_TO1) LF' fw_E1 (fun side => fw_fe fw_PR1 fw_FR1 fw_TT1 (fw_RM1 a b c) side (fun S => Nat.beq S (fw_all3 3 a b c)) 20 0 0) 16 (Nat.shiftLeft 1 0)) = true := fw_acB (F := fun a b c => fw_solve fw_adj1 fw_TO1 fw_NX1 fw_FS1 fw_E1 0 7 2 (fw_LF11 a b c) (fun LF' _ => fw_rds (fw_tl fw_TO1) (fw_hd fw_TO1) LF' fw_E1 (fun side => fw_fe fw_PR1 fw_FR1 fw_TT1 (fw_RM1 a b c) side (fun S => Nat.beq S (fw_all3 3 a b c)) 20 0 0) 16 (Nat.shiftLeft 1 0))) fw_v_few_0 fw_v_few_1 fw_v_few_2 fw_v_few_3 ha hb hc
theorem fw_v_apart_0 : fw_ac (fun a c => fw_solve fw_adj1 fw_TO1 fw_NX1 fw_FS1 fw_E1 0 7 1 (fw_LF11 a 0 c) (fun _ n => Nat.beq n (fw_all3 3 a 0 c))) = true := by decide +kernel
theorem fw_v_apart_1 : fw_ac (fun a c => fw_solve fw_adj1 fw_TO1 fw_NX1 fw_FS1 fw_E1 0 7 1 (fw_LF11 a 1 c) (fun _ n => Nat.beq n (fw_all3 3 a 1 c))) = true := by decide +kernel
theorem fw_v_apart_2 : fw_ac (fun a c => fw_solve fw_adj1 fw_TO1 fw_NX1 fw_FS1 fw_E1 0 7 1 (fw_LF11 a 2 c) (fun _ n => Nat.beq n (fw_all3 3 a 2 c))) = true := by decide +kernel
theorem fw_v_apart_3 : fw_ac (fun a c => fw_solve fw_adj1 fw_TO1 fw_NX1 fw_FS1 fw_E1 0 7 1 (fw_LF11 a 3 c) (fun _ n => Nat.beq n (fw_all3 3 a 3 c))) = true := by decide +kernel
theorem fw_k_apart {a b c : Nat} (ha : a < 10) (hb : b < 4) (hc : c < 10) : fw_solve fw_adj1 fw_TO1 fw_NX1 fw_FS1 fw_E1 0 7 1 (fw_LF11 a b c) (fun _ n => Nat.beq n (fw_all3 3 a b c)) = true := fw_acB (F := fun a b c => fw_solve fw_adj1 fw_TO1 fw_NX1 fw_FS1 fw_E1 0 7 1 (fw_LF11 a b c) (fun _ n => Nat.beq n (fw_all3 3 a b c))) fw_v_apart_0 fw_v_apart_1 fw_v_apart_2 fw_v_apart_3 ha hb hc
theorem fw_v_sep_0 : fw_ac (fun a c => fw_solve fw_adjs1 fw_TOs1 fw_NXs1 fw_FSs1 fw_Es1 0 7 6 (fw_LF12 a 0 c) (fun _ n => Nat.beq n (fw_all3 3 a 0 c))) = true := by decide +kernel
theorem fw_v_sep_1 : fw_ac (fun a c => fw_solve fw_adjs1 fw_TOs1 fw_NXs1 fw_FSs1 fw_Es1 0 7 6 (fw_LF12 a 1 c) (fun _ n => Nat.beq n (fw_all3 3 a 1 c))) = true := by decide +kernel
theorem fw_v_sep_2 : fw_ac (fun a c => fw_solve fw_adjs1 fw_TOs1 fw_NXs1 fw_FSs1 fw_Es1 0 7 6 (fw_LF12 a 2 c) (fun _ n => Nat.beq n (fw_all3 3 a 2 c))) = true := by decide +kernel
theorem fw_v_sep_3 : fw_ac (fun a c => fw_solve fw_adjs1 fw_TOs1 fw_NXs1 fw_FSs1 fw_Es1 0 7 6 (fw_LF12 a 3 c) (fun _ n => Nat.beq n (fw_all3 3 a 3 c))) = true := by decide +kernel
theorem fw_k_sep {a b c : Nat} (ha : a < 10) (hb : b < 4) (hc : c < 10) : fw_solve fw_adjs1 fw_TOs1 fw_NXs1 fw_FSs1 fw_Es1 0 7 6 (fw_LF12 a b c) (fun _ n => Nat.beq n (fw_all3 3 a b c)) = true := fw_acB (F := fun a b c => fw_solve fw_adjs1 fw_TOs1 fw_NXs1 fw_FSs1 fw_Es1 0 7 6 (fw_LF12 a b c) (fun _ n => Nat.beq n (fw_all3 3 a b c))) fw_v_sep_0 fw_v_sep_1 fw_v_sep_2 fw_v_sep_3 ha hb hc
theorem fw_v_v3_0 : fw_ac (fun a c => fw_solve fw_adj2 fw_TO2 fw_NX2 fw_FS2 fw_E2 0 7 3 (fw_LF20 a 0 c) (fun _ n => Nat.beq n (fw_now a 0 c))) = true := by decide +kernel
theorem fw_v_v3_1 : fw_ac (fun a c => fw_solve fw_adj2 fw_TO2 fw_NX2 fw_FS2 fw_E2 0 7 3 (fw_LF20 a 1 c) (fun _ n => Nat.beq n (fw_now a 1 c))) = true := by decide +kernel
theorem fw_v_v3_2 : fw_ac (fun a c => fw_solve fw_adj2 fw_TO2 fw_NX2 fw_FS2 fw_E2 0 7 3 (fw_LF20 a 2 c) (fun _ n => Nat.beq n (fw_now a 2 c))) = true := by decide +kernel
theorem fw_v_v3_3 : fw_ac (fun a c => fw_solve fw_adj2 fw_TO2 fw_NX2 fw_FS2 fw_E2 0 7 3 (fw_LF20 a 3 c) (fun _ n => Nat.beq n (fw_now a 3 c))) = true := by decide +kernel
theorem fw_k_v3 {a b c : Nat} (ha : a < 10) (hb : b < 4) (hc : c < 10) : fw_solve fw_adj2 fw_TO2 fw_NX2 fw_FS2 fw_E2 0 7 3 (fw_LF20 a b c) (fun _ n => Nat.beq n (fw_now a b c)) = true := fw_acB (F := fun a b c => fw_solve fw_adj2 fw_TO2 fw_NX2 fw_FS2 fw_E2 0 7 3 (fw_LF20 a b c) (fun _ n => Nat.beq n (fw_now a b c))) fw_v_v3_0 fw_v_v3_1 fw_v_v3_2 fw_v_v3_3 ha hb hc
theorem fw_v_apart2_0 : fw_ac (fun a c => fw_solve fw_adj2 fw_TO2 fw_NX2 fw_FS2 fw_E2 0 7 1 (fw_LF21 a 0 c) (fun _ n => Nat.beq n (fw_all3 2 a 0 c))) = true := by decide +kernel
theorem fw_v_apart2_1 : fw_ac (fun a c => fw_solve fw_adj2 fw_TO2 fw_NX2 fw_FS2 fw_E2 0 7 1 (fw_LF21 a 1 c) (fun _ n => Nat.beq n (fw_all3 2 a 1 c))) = true := by decide +kernel
theorem fw_v_apart2_2 : fw_ac (fun a c => fw_solve fw_adj2 fw_TO2 fw_NX2 fw_FS2 fw_E2 0 7 1 (fw_LF21 a 2 c) (fun _ n => Nat.beq n (fw_all3 2 a 2 c))) = true := by decide +kernel
theorem fw_v_apart2_3 : fw_ac (fun a c => fw_solve fw_adj2 fw_TO2 fw_NX2 fw_FS2 fw_E2 0 7 1 (fw_LF21 a 3 c) (fun _ n => Nat.beq n (fw_all3 2 a 3 c))) = true := by decide +kernel
theorem fw_k_apart2 {a b c : Nat} (ha : a < 10) (hb : b < 4) (hc : c < 10) : fw_solve fw_adj2 fw_TO2 fw_NX2 fw_FS2 fw_E2 0 7 1 (fw_LF21 a b c) (fun _ n => Nat.beq n (fw_all3 2 a b c)) = true := fw_acB (F := fun a b c => fw_solve fw_adj2 fw_TO2 fw_NX2 fw_FS2 fw_E2 0 7 1 (fw_LF21 a b c) (fun _ n => Nat.beq n (fw_all3 2 a b c))) fw_v_apart2_0 fw_v_apart2_1 fw_v_apart2_2 fw_v_apart2_3 ha hb hc
theorem fw_v_sep2_0 : fw_ac (fun a c => fw_solve fw_adjs2 fw_TOs2 fw_NXs2 fw_FSs2 fw_Es2 0 7 6 (fw_LF22 a 0 c) (fun _ n => Nat.beq n (fw_all3 2 a 0 c))) = true := by decide +kernel
theorem fw_v_sep2_1 : fw_ac (fun a c => fw_solve fw_adjs2 fw_TOs2 fw_NXs2 fw_FSs2 fw_Es2 0 7 6 (fw_LF22 a 1 c) (fun _ n => Nat.beq n (fw_all3 2 a 1 c))) = true := by decide +kernel
theorem fw_v_sep2_2 : fw_ac (fun a c => fw_solve fw_adjs2 fw_TOs2 fw_NXs2 fw_FSs2 fw_Es2 0 7 6 (fw_LF22 a 2 c) (fun _ n => Nat.beq n (fw_all3 2 a 2 c))) = true := by decide +kernel
theorem fw_v_sep2_3 : fw_ac (fun a c => fw_solve fw_adjs2 fw_TOs2 fw_NXs2 fw_FSs2 fw_Es2 0 7 6 (fw_LF22 a 3 c) (fun _ n => Nat.beq n (fw_all3 2 a 3 c))) = true := by decide +kernel
theorem fw_k_sep2 {a b c : Nat} (ha : a < 10) (hb : b < 4) (hc : c < 10) : fw_solve fw_adjs2 fw_TOs2 fw_NXs2 fw_FSs2 fw_Es2 0 7 6 (fw_LF22 a b c) (fun _ n => Nat.beq n (fw_all3 2 a b c)) = true := fw_acB (F := fun a b c => fw_solve fw_adjs2 fw_TOs2 fw_NXs2 fw_FSs2 fw_Es2 0 7 6 (fw_LF22 a b c) (fun _ n => Nat.beq n (fw_all3 2 a b c))) fw_v_sep2_0 fw_v_sep2_1 fw_v_sep2_2 fw_v_sep2_3 ha hb hc
theorem fw_v_v5_0 : fw_ac (fun a c => fw_solve fw_adj3 fw_TO3 fw_NX3 fw_FS3 fw_E3 0 7 5 (fw_LF30 a 0 c) (fun _ n => Nat.beq n (Nat.add (fw_now a 0 c) 75))) = true := by decide +kernel
theorem fw_v_v5_1 : fw_ac (fun a c => fw_solve fw_adj3 fw_TO3 fw_NX3 fw_FS3 fw_E3 0 7 5 (fw_LF30 a 1 c) (fun _ n => Nat.beq n (Nat.add (fw_now a 1 c) 75))) = true := by decide +kernel
theorem fw_v_v5_2 : fw_ac (fun a c => fw_solve fw_adj3 fw_TO3 fw_NX3 fw_FS3 fw_E3 0 7 5 (fw_LF30 a 2 c) (fun _ n => Nat.beq n (Nat.add (fw_now a 2 c) 75))) = true := by decide +kernel
theorem fw_v_v5_3 : fw_ac (fun a c => fw_solve fw_adj3 fw_TO3 fw_NX3 fw_FS3 fw_E3 0 7 5 (fw_LF30 a 3 c) (fun _ n => Nat.beq n (Nat.add (fw_now a 3 c) 75))) = true := by decide +kernel
theorem fw_k_v5 {a b c : Nat} (ha : a < 10) (hb : b < 4) (hc : c < 10) : fw_solve fw_adj3 fw_TO3 fw_NX3 fw_FS3 fw_E3 0 7 5 (fw_LF30 a b c) (fun _ n => Nat.beq n (Nat.add (fw_now a b c) 75)) = true := fw_acB (F := fun a b c => fw_solve fw_adj3 fw_TO3 fw_NX3 fw_FS3 fw_E3 0 7 5 (fw_LF30 a b c) (fun _ n => Nat.beq n (Nat.add (fw_now a b c) 75))) fw_v_v5_0 fw_v_v5_1 fw_v_v5_2 fw_v_v5_3 ha hb hc
theorem fw_v_sep3_0 : fw_ac (fun a c => fw_solve fw_adjs3 fw_TOs3 fw_NXs3 fw_FSs3 fw_Es3 0 7 6 (fw_LF32 a 0 c) (fun _ n => Nat.beq n (Nat.add (fw_all3 2 a 0 c) 6))) = true := by decide +kernel
theorem fw_v_sep3_1 : fw_ac (fun a c => fw_solve fw_adjs3 fw_TOs3 fw_NXs3 fw_FSs3 fw_Es3 0 7 6 (fw_LF32 a 1 c) (fun _ n => Nat.beq n (Nat.add (fw_all3 2 a 1 c) 6))) = true := by decide +kernel
theorem fw_v_sep3_2 : fw_ac (fun a c => fw_solve fw_adjs3 fw_TOs3 fw_NXs3 fw_FSs3 fw_Es3 0 7 6 (fw_LF32 a 2 c) (fun _ n => Nat.beq n (Nat.add (fw_all3 2 a 2 c) 6))) = true := by decide +kernel
theorem fw_v_sep3_3 : fw_ac (fun a c => fw_solve fw_adjs3 fw_TOs3 fw_NXs3 fw_FSs3 fw_Es3 0 7 6 (fw_LF32 a 3 c) (fun _ n => Nat.beq n (Nat.add (fw_all3 2 a 3 c) 6))) = true := by decide +kernel
theorem fw_k_sep3 {a b c : Nat} (ha : a < 10) (hb : b < 4) (hc : c < 10) : fw_solve fw_adjs3 fw_TOs3 fw_NXs3 fw_FSs3 fw_Es3 0 7 6 (fw_LF32 a b c) (fun _ n => Nat.beq n (Nat.add (fw_all3 2 a b c) 6)) = true := fw_acB (F := fun a b c => fw_solve fw_adjs3 fw_TOs3 fw_NXs3 fw_FSs3 fw_Es3 0 7 6 (fw_LF32 a b c) (fun _ n => Nat.beq n (Nat.add (fw_all3 2 a b c) 6))) fw_v_sep3_0 fw_v_sep3_1 fw_v_sep3_2 fw_v_sep3_3 ha hb hc
theorem fw_v_thr0_0 : fw_ac (fun a c => fw_solve fw_adjs3 fw_TOs3 fw_NXs3 fw_FSs3 fw_Es3 0 7 3 (fw_LF33 a 0 c) (fun _ n => Nat.beq n 75)) = true := by decide +kernel
theorem fw_v_thr0_1 : fw_ac (fun a c => fw_solve fw_adjs3 fw_TOs3 fw_NXs3 fw_FSs3 fw_Es3 0 7 3 (fw_LF33 a 1 c) (fun _ n => Nat.beq n 75)) = true := by decide +kernel
theorem fw_v_thr0_2 : fw_ac (fun a c => fw_solve fw_adjs3 fw_TOs3 fw_NXs3 fw_FSs3 fw_Es3 0 7 3 (fw_LF33 a 2 c) (fun _ n => Nat.beq n 75)) = true := by decide +kernel
theorem fw_v_thr0_3 : fw_ac (fun a c => fw_solve fw_adjs3 fw_TOs3 fw_NXs3 fw_FSs3 fw_Es3 0 7 3 (fw_LF33 a 3 c) (fun _ n => Nat.beq n 75)) = true := by decide +kernel
theorem fw_k_thr0 {a b c : Nat} (ha : a < 10) (hb : b < 4) (hc : c < 10) : fw_solve fw_adjs3 fw_TOs3 fw_NXs3 fw_FSs3 fw_Es3 0 7 3 (fw_LF33 a b c) (fun _ n => Nat.beq n 75) = true := fw_acB (F := fun a b c => fw_solve fw_adjs3 fw_TOs3 fw_NXs3 fw_FSs3 fw_Es3 0 7 3 (fw_LF33 a b c) (fun _ n => Nat.beq n 75)) fw_v_thr0_0 fw_v_thr0_1 fw_v_thr0_2 fw_v_thr0_3 ha hb hc
theorem fw_v_v2_0 : fw_ac (fun a c => fw_solve fw_adj3 fw_TO3 fw_NX3 fw_FS3 fw_E3 0 7 2 (fw_LF40 a 0 c) (fun _ n => Nat.beq n (Nat.add (fw_now a 0 c) 65))) = true := by decide +kernel
theorem fw_v_v2_1 : fw_ac (fun a c => fw_solve fw_adj3 fw_TO3 fw_NX3 fw_FS3 fw_E3 0 7 2 (fw_LF40 a 1 c) (fun _ n => Nat.beq n (Nat.add (fw_now a 1 c) 65))) = true := by decide +kernel
theorem fw_v_v2_2 : fw_ac (fun a c => fw_solve fw_adj3 fw_TO3 fw_NX3 fw_FS3 fw_E3 0 7 2 (fw_LF40 a 2 c) (fun _ n => Nat.beq n (Nat.add (fw_now a 2 c) 65))) = true := by decide +kernel
theorem fw_v_v2_3 : fw_ac (fun a c => fw_solve fw_adj3 fw_TO3 fw_NX3 fw_FS3 fw_E3 0 7 2 (fw_LF40 a 3 c) (fun _ n => Nat.beq n (Nat.add (fw_now a 3 c) 65))) = true := by decide +kernel
theorem fw_k_v2 {a b c : Nat} (ha : a < 10) (hb : b < 4) (hc : c < 10) : fw_solve fw_adj3 fw_TO3 fw_NX3 fw_FS3 fw_E3 0 7 2 (fw_LF40 a b c) (fun _ n => Nat.beq n (Nat.add (fw_now a b c) 65)) = true := fw_acB (F := fun a b c => fw_solve fw_adj3 fw_TO3 fw_NX3 fw_FS3 fw_E3 0 7 2 (fw_LF40 a b c) (fun _ n => Nat.beq n (Nat.add (fw_now a b c) 65))) fw_v_v2_0 fw_v_v2_1 fw_v_v2_2 fw_v_v2_3 ha hb hc
theorem fw_v_lay10_0 : fw_ac (fun a c => fw_lay fw_PR1 fw_FR1 fw_TT1 (fw_RM1 a 0 c) 0 0 7 1 (fw_is fw_TO1 fw_NX1 fw_FS1 (fw_LF10 a 0 c) fw_E1)) = true := by decide +kernel
theorem fw_v_lay10_1 : fw_ac (fun a c => fw_lay fw_PR1 fw_FR1 fw_TT1 (fw_RM1 a 1 c) 0 0 7 1 (fw_is fw_TO1 fw_NX1 fw_FS1 (fw_LF10 a 1 c) fw_E1)) = true := by decide +kernel
theorem fw_v_lay10_2 : fw_ac (fun a c => fw_lay fw_PR1 fw_FR1 fw_TT1 (fw_RM1 a 2 c) 0 0 7 1 (fw_is fw_TO1 fw_NX1 fw_FS1 (fw_LF10 a 2 c) fw_E1)) = true := by decide +kernel
theorem fw_v_lay10_3 : fw_ac (fun a c => fw_lay fw_PR1 fw_FR1 fw_TT1 (fw_RM1 a 3 c) 0 0 7 1 (fw_is fw_TO1 fw_NX1 fw_FS1 (fw_LF10 a 3 c) fw_E1)) = true := by decide +kernel
theorem fw_k_lay10 {a b c : Nat} (ha : a < 10) (hb : b < 4) (hc : c < 10) : fw_lay fw_PR1 fw_FR1 fw_TT1 (fw_RM1 a b c) 0 0 7 1 (fw_is fw_TO1 fw_NX1 fw_FS1 (fw_LF10 a b c) fw_E1) = true := fw_acB (F := fun a b c => fw_lay fw_PR1 fw_FR1 fw_TT1 (fw_RM1 a b c) 0 0 7 1 (fw_is fw_TO1 fw_NX1 fw_FS1 (fw_LF10 a b c) fw_E1)) fw_v_lay10_0 fw_v_lay10_1 fw_v_lay10_2 fw_v_lay10_3 ha hb hc
theorem fw_v_lay11_0 : fw_ac (fun a c => fw_lay fw_PR1 fw_FR1 fw_TT1 (fw_RM1 a 0 c) 1 0 7 1 (fw_is fw_TO1 fw_NX1 fw_FS1 (fw_LF11 a 0 c) fw_E1)) = true := by decide +kernel
theorem fw_v_lay11_1 : fw_ac (fun a c => fw_lay fw_PR1 fw_FR1 fw_TT1 (fw_RM1 a 1 c) 1 0 7 1 (fw_is fw_TO1 fw_NX1 fw_FS1 (fw_LF11 a 1 c) fw_E1)) = true := by decide +kernel
theorem fw_v_lay11_2 : fw_ac (fun a c => fw_lay fw_PR1 fw_FR1 fw_TT1 (fw_RM1 a 2 c) 1 0 7 1 (fw_is fw_TO1 fw_NX1 fw_FS1 (fw_LF11 a 2 c) fw_E1)) = true := by decide +kernel
theorem fw_v_lay11_3 : fw_ac (fun a c => fw_lay fw_PR1 fw_FR1 fw_TT1 (fw_RM1 a 3 c) 1 0 7 1 (fw_is fw_TO1 fw_NX1 fw_FS1 (fw_LF11 a 3 c) fw_E1)) = true := by decide +kernel
theorem fw_k_lay11 {a b c : Nat} (ha : a < 10) (hb : b < 4) (hc : c < 10) : fw_lay fw_PR1 fw_FR1 fw_TT1 (fw_RM1 a b c) 1 0 7 1 (fw_is fw_TO1 fw_NX1 fw_FS1 (fw_LF11 a b c) fw_E1) = true := fw_acB (F := fun a b c => fw_lay fw_PR1 fw_FR1 fw_TT1 (fw_RM1 a b c) 1 0 7 1 (fw_is fw_TO1 fw_NX1 fw_FS1 (fw_LF11 a b c) fw_E1)) fw_v_lay11_0 fw_v_lay11_1 fw_v_lay11_2 fw_v_lay11_3 ha hb hc
theorem fw_v_lay12_0 : fw_ac (fun a c => fw_lay fw_PR1 fw_FR1 fw_TT1 (fw_RM1 a 0 c) 2 0 7 1 (fw_is fw_TOs1 fw_NXs1 fw_FSs1 (fw_LF12 a 0 c) fw_Es1)) = true := by decide +kernel
theorem fw_v_lay12_1 : fw_ac (fun a c => fw_lay fw_PR1 fw_FR1 fw_TT1 (fw_RM1 a 1 c) 2 0 7 1 (fw_is fw_TOs1 fw_NXs1 fw_FSs1 (fw_LF12 a 1 c) fw_Es1)) = true := by decide +kernel
theorem fw_v_lay12_2 : fw_ac (fun a c => fw_lay fw_PR1 fw_FR1 fw_TT1 (fw_RM1 a 2 c) 2 0 7 1 (fw_is fw_TOs1 fw_NXs1 fw_FSs1 (fw_LF12 a 2 c) fw_Es1)) = true := by decide +kernel
theorem fw_v_lay12_3 : fw_ac (fun a c => fw_lay fw_PR1 fw_FR1 fw_TT1 (fw_RM1 a 3 c) 2 0 7 1 (fw_is fw_TOs1 fw_NXs1 fw_FSs1 (fw_LF12 a 3 c) fw_Es1)) = true := by decide +kernel
theorem fw_k_lay12 {a b c : Nat} (ha : a < 10) (hb : b < 4) (hc : c < 10) : fw_lay fw_PR1 fw_FR1 fw_TT1 (fw_RM1 a b c) 2 0 7 1 (fw_is fw_TOs1 fw_NXs1 fw_FSs1 (fw_LF12 a b c) fw_Es1) = true := fw_acB (F := fun a b c => fw_lay fw_PR1 fw_FR1 fw_TT1 (fw_RM1 a b c) 2 0 7 1 (fw_is fw_TOs1 fw_NXs1 fw_FSs1 (fw_LF12 a b c) fw_Es1)) fw_v_lay12_0 fw_v_lay12_1 fw_v_lay12_2 fw_v_lay12_3 ha hb hc
theorem fw_v_lay20_0 : fw_ac (fun a c => fw_lay fw_PR2 fw_FR2 fw_TT2 (fw_RM2 a 0 c) 0 0 7 1 (fw_is fw_TO2 fw_NX2 fw_FS2 (fw_LF20 a 0 c) fw_E2)) = true := by decide +kernel
theorem fw_v_lay20_1 : fw_ac (fun a c => fw_lay fw_PR2 fw_FR2 fw_TT2 (fw_RM2 a 1 c) 0 0 7 1 (fw_is fw_TO2 fw_NX2 fw_FS2 (fw_LF20 a 1 c) fw_E2)) = true := by decide +kernel
theorem fw_v_lay20_2 : fw_ac (fun a c => fw_lay fw_PR2 fw_FR2 fw_TT2 (fw_RM2 a 2 c) 0 0 7 1 (fw_is fw_TO2 fw_NX2 fw_FS2 (fw_LF20 a 2 c) fw_E2)) = true := by decide +kernel
theorem fw_v_lay20_3 : fw_ac (fun a c => fw_lay fw_PR2 fw_FR2 fw_TT2 (fw_RM2 a 3 c) 0 0 7 1 (fw_is fw_TO2 fw_NX2 fw_FS2 (fw_LF20 a 3 c) fw_E2)) = true := by decide +kernel
theorem fw_k_lay20 {a b c : Nat} (ha : a < 10) (hb : b < 4) (hc : c < 10) : fw_lay fw_PR2 fw_FR2 fw_TT2 (fw_RM2 a b c) 0 0 7 1 (fw_is fw_TO2 fw_NX2 fw_FS2 (fw_LF20 a b c) fw_E2) = true := fw_acB (F := fun a b c => fw_lay fw_PR2 fw_FR2 fw_TT2 (fw_RM2 a b c) 0 0 7 1 (fw_is fw_TO2 fw_NX2 fw_FS2 (fw_LF20 a b c) fw_E2)) fw_v_lay20_0 fw_v_lay20_1 fw_v_lay20_2 fw_v_lay20_3 ha hb hc
theorem fw_v_lay21_0 : fw_ac (fun a c => fw_lay fw_PR2 fw_FR2 fw_TT2 (fw_RM2 a 0 c) 1 0 7 1 (fw_is fw_TO2 fw_NX2 fw_FS2 (fw_LF21 a 0 c) fw_E2)) = true := by decide +kernel
theorem fw_v_lay21_1 : fw_ac (fun a c => fw_lay fw_PR2 fw_FR2 fw_TT2 (fw_RM2 a 1 c) 1 0 7 1 (fw_is fw_TO2 fw_NX2 fw_FS2 (fw_LF21 a 1 c) fw_E2)) = true := by decide +kernel
theorem fw_v_lay21_2 : fw_ac (fun a c => fw_lay fw_PR2 fw_FR2 fw_TT2 (fw_RM2 a 2 c) 1 0 7 1 (fw_is fw_TO2 fw_NX2 fw_FS2 (fw_LF21 a 2 c) fw_E2)) = true := by decide +kernel
theorem fw_v_lay21_3 : fw_ac (fun a c => fw_lay fw_PR2 fw_FR2 fw_TT2 (fw_RM2 a 3 c) 1 0 7 1 (fw_is fw_TO2 fw_NX2 fw_FS2 (fw_LF21 a 3 c) fw_E2)) = true := by decide +kernel
theorem fw_k_lay21 {a b c : Nat} (ha : a < 10) (hb : b < 4) (hc : c < 10) : fw_lay fw_PR2 fw_FR2 fw_TT2 (fw_RM2 a b c) 1 0 7 1 (fw_is fw_TO2 fw_NX2 fw_FS2 (fw_LF21 a b c) fw_E2) = true := fw_acB (F := fun a b c => fw_lay fw_PR2 fw_FR2 fw_TT2 (fw_RM2 a b c) 1 0 7 1 (fw_is fw_TO2 fw_NX2 fw_FS2 (fw_LF21 a b c) fw_E2)) fw_v_lay21_0 fw_v_lay21_1 fw_v_lay21_2 fw_v_lay21_3 ha hb hc
theorem fw_v_lay22_0 : fw_ac (fun a c => fw_lay fw_PR2 fw_FR2 fw_TT2 (fw_RM2 a 0 c) 2 0 7 1 (fw_is fw_TOs2 fw_NXs2 fw_FSs2 (fw_LF22 a 0 c) fw_Es2)) = true := by decide +kernel
theorem fw_v_lay22_1 : fw_ac (fun a c => fw_lay fw_PR2 fw_FR2 fw_TT2 (fw_RM2 a 1 c) 2 0 7 1 (fw_is fw_TOs2 fw_NXs2 fw_FSs2 (fw_LF22 a 1 c) fw_Es2)) = true := by decide +kernel
theorem fw_v_lay22_2 : fw_ac (fun a c => fw_lay fw_PR2 fw_FR2 fw_TT2 (fw_RM2 a 2 c) 2 0 7 1 (fw_is fw_TOs2 fw_NXs2 fw_FSs2 (fw_LF22 a 2 c) fw_Es2)) = true := by decide +kernel
theorem fw_v_lay22_3 : fw_ac (fun a c => fw_lay fw_PR2 fw_FR2 fw_TT2 (fw_RM2 a 3 c) 2 0 7 1 (fw_is fw_TOs2 fw_NXs2 fw_FSs2 (fw_LF22 a 3 c) fw_Es2)) = true := by decide +kernel
theorem fw_k_lay22 {a b c : Nat} (ha : a < 10) (hb : b < 4) (hc : c < 10) : fw_lay fw_PR2 fw_FR2 fw_TT2 (fw_RM2 a b c) 2 0 7 1 (fw_is fw_TOs2 fw_NXs2 fw_FSs2 (fw_LF22 a b c) fw_Es2) = true := fw_acB (F := fun a b c => fw_lay fw_PR2 fw_FR2 fw_TT2 (fw_RM2 a b c) 2 0 7 1 (fw_is fw_TOs2 fw_NXs2 fw_FSs2 (fw_LF22 a b c) fw_Es2)) fw_v_lay22_0 fw_v_lay22_1 fw_v_lay22_2 fw_v_lay22_3 ha hb hc
theorem fw_v_lay30_0 : fw_ac (fun a c => fw_lay fw_PR3 fw_FR3 fw_TT3 (fw_RM3 a 0 c) 0 0 7 1 (fw_is fw_TO3 fw_NX3 fw_FS3 (fw_LF30 a 0 c) fw_E3)) = true := by decide +kernel
theorem fw_v_lay30_1 : fw_ac (fun a c => fw_lay fw_PR3 fw_FR3 fw_TT3 (fw_RM3 a 1 c) 0 0 7 1 (fw_is fw_TO3 fw_NX3 fw_FS3 (fw_LF30 a 1 c) fw_E3)) = true := by decide +kernel
theorem fw_v_lay30_2 : fw_ac (fun a c => fw_lay fw_PR3 fw_FR3 fw_TT3 (fw_RM3 a 2 c) 0 0 7 1 (fw_is fw_TO3 fw_NX3 fw_FS3 (fw_LF30 a 2 c) fw_E3)) = true := by decide +kernel
theorem fw_v_lay30_3 : fw_ac (fun a c => fw_lay fw_PR3 fw_FR3 fw_TT3 (fw_RM3 a 3 c) 0 0 7 1 (fw_is fw_TO3 fw_NX3 fw_FS3 (fw_LF30 a 3 c) fw_E3)) = true := by decide +kernel
theorem fw_k_lay30 {a b c : Nat} (ha : a < 10) (hb : b < 4) (hc : c < 10) : fw_lay fw_PR3 fw_FR3 fw_TT3 (fw_RM3 a b c) 0 0 7 1 (fw_is fw_TO3 fw_NX3 fw_FS3 (fw_LF30 a b c) fw_E3) = true := fw_acB (F := fun a b c => fw_lay fw_PR3 fw_FR3 fw_TT3 (fw_RM3 a b c) 0 0 7 1 (fw_is fw_TO3 fw_NX3 fw_FS3 (fw_LF30 a b c) fw_E3)) fw_v_lay30_0 fw_v_lay30_1 fw_v_lay30_2 fw_v_lay30_3 ha hb hc
theorem fw_v_lay32_0 : fw_ac (fun a c => fw_lay fw_PR3 fw_FR3 fw_TT3 (fw_RM3 a 0 c) 2 0 7 1 (fw_is fw_TOs3 fw_NXs3 fw_FSs3 (fw_LF32 a 0 c) fw_Es3)) = true := by decide +kernel
theorem fw_v_lay32_1 : fw_ac (fun a c => fw_lay fw_PR3 fw_FR3 fw_TT3 (fw_RM3 a 1 c) 2 0 7 1 (fw_is fw_TOs3 fw_NXs3 fw_FSs3 (fw_LF32 a 1 c) fw_Es3)) = true := by decide +kernel
theorem fw_v_lay32_2 : fw_ac (fun a c => fw_lay fw_PR3 fw_FR3 fw_TT3 (fw_RM3 a 2 c) 2 0 7 1 (fw_is fw_TOs3 fw_NXs3 fw_FSs3 (fw_LF32 a 2 c) fw_Es3)) = true := by decide +kernel
theorem fw_v_lay32_3 : fw_ac (fun a c => fw_lay fw_PR3 fw_FR3 fw_TT3 (fw_RM3 a 3 c) 2 0 7 1 (fw_is fw_TOs3 fw_NXs3 fw_FSs3 (fw_LF32 a 3 c) fw_Es3)) = true := by decide +kernel
theorem fw_k_lay32 {a b c : Nat} (ha : a < 10) (hb : b < 4) (hc : c < 10) : fw_lay fw_PR3 fw_FR3 fw_TT3 (fw_RM3 a b c) 2 0 7 1 (fw_is fw_TOs3 fw_NXs3 fw_FSs3 (fw_LF32 a b c) fw_Es3) = true := fw_acB (F := fun a b c => fw_lay fw_PR3 fw_FR3 fw_TT3 (fw_RM3 a b c) 2 0 7 1 (fw_is fw_TOs3 fw_NXs3 fw_FSs3 (fw_LF32 a b c) fw_Es3)) fw_v_lay32_0 fw_v_lay32_1 fw_v_lay32_2 fw_v_lay32_3 ha hb hc
theorem fw_v_lay33_0 : fw_ac (fun a c => fw_lay fw_PR3 fw_FR3 fw_TT3 (fw_RM3 a 0 c) 3 0 7 0 (fw_is fw_TOs3 fw_NXs3 fw_FSs3 (fw_LF33 a 0 c) fw_Es3)) = true := by decide +kernel
theorem fw_v_lay33_1 : fw_ac (fun a c => fw_lay fw_PR3 fw_FR3 fw_TT3 (fw_RM3 a 1 c) 3 0 7 0 (fw_is fw_TOs3 fw_NXs3 fw_FSs3 (fw_LF33 a 1 c) fw_Es3)) = true := by decide +kernel
theorem fw_v_lay33_2 : fw_ac (fun a c => fw_lay fw_PR3 fw_FR3 fw_TT3 (fw_RM3 a 2 c) 3 0 7 0 (fw_is fw_TOs3 fw_NXs3 fw_FSs3 (fw_LF33 a 2 c) fw_Es3)) = true := by decide +kernel
theorem fw_v_lay33_3 : fw_ac (fun a c => fw_lay fw_PR3 fw_FR3 fw_TT3 (fw_RM3 a 3 c) 3 0 7 0 (fw_is fw_TOs3 fw_NXs3 fw_FSs3 (fw_LF33 a 3 c) fw_Es3)) = true := by decide +kernel
theorem fw_k_lay33 {a b c : Nat} (ha : a < 10) (hb : b < 4) (hc : c < 10) : fw_lay fw_PR3 fw_FR3 fw_TT3 (fw_RM3 a b c) 3 0 7 0 (fw_is fw_TOs3 fw_NXs3 fw_FSs3 (fw_LF33 a b c) fw_Es3) = true := fw_acB (F := fun a b c => fw_lay fw_PR3 fw_FR3 fw_TT3 (fw_RM3 a b c) 3 0 7 0 (fw_is fw_TOs3 fw_NXs3 fw_FSs3 (fw_LF33 a b c) fw_Es3)) fw_v_lay33_0 fw_v_lay33_1 fw_v_lay33_2 fw_v_lay33_3 ha hb hc
theorem fw_v_lay40_0 : fw_ac (fun a c => fw_lay fw_PR4 fw_FR4 fw_TT4 (fw_RM4 a 0 c) 0 0 7 1 (fw_is fw_TO3 fw_NX3 fw_FS3 (fw_LF40 a 0 c) fw_E3)) = true := by decide +kernel
theorem fw_v_lay40_1 : fw_ac (fun a c => fw_lay fw_PR4 fw_FR4 fw_TT4 (fw_RM4 a 1 c) 0 0 7 1 (fw_is fw_TO3 fw_NX3 fw_FS3 (fw_LF40 a 1 c) fw_E3)) = true := by decide +kernel
theorem fw_v_lay40_2 : fw_ac (fun a c => fw_lay fw_PR4 fw_FR4 fw_TT4 (fw_RM4 a 2 c) 0 0 7 1 (fw_is fw_TO3 fw_NX3 fw_FS3 (fw_LF40 a 2 c) fw_E3)) = true := by decide +kernel
theorem fw_v_lay40_3 : fw_ac (fun a c => fw_lay fw_PR4 fw_FR4 fw_TT4 (fw_RM4 a 3 c) 0 0 7 1 (fw_is fw_TO3 fw_NX3 fw_FS3 (fw_LF40 a 3 c) fw_E3)) = true := by decide +kernel
theorem fw_k_lay40 {a b c : Nat} (ha : a < 10) (hb : b < 4) (hc : c < 10) : fw_lay fw_PR4 fw_FR4 fw_TT4 (fw_RM4 a b c) 0 0 7 1 (fw_is fw_TO3 fw_NX3 fw_FS3 (fw_LF40 a b c) fw_E3) = true := fw_acB (F := fun a b c => fw_lay fw_PR4 fw_FR4 fw_TT4 (fw_RM4 a b c) 0 0 7 1 (fw_is fw_TO3 fw_NX3 fw_FS3 (fw_LF40 a b c) fw_E3)) fw_v_lay40_0 fw_v_lay40_1 fw_v_lay40_2 fw_v_lay40_3 ha hb hc
end
section
/-! evaluation: every pair of points (written by mkconst.js) -/
theorem fw_v_w0_0 : fw_ac (fun a c => fw_all (fun t => fw_if (Nat.beq t 0) true (fw_solve fw_adj1 fw_TO1 fw_NX1 fw_FS1 fw_E1 0 t ((0 + t) % 7) (fw_LF10 a 0 c) (fun _ n => fw_if (Nat.beq t 0) (Nat.beq n 0) (Nat.ble n 1048576)))) 8) = true := by decide +kernel
theorem fw_v_w0_1 : fw_ac (fun a c => fw_all (fun t => fw_if (Nat.beq t 0) true (fw_solve fw_adj1 fw_TO1 fw_NX1 fw_FS1 fw_E1 0 t ((0 + t) % 7) (fw_LF10 a 1 c) (fun _ n => fw_if (Nat.beq t 0) (Nat.beq n 0) (Nat.ble n 1048576)))) 8) = true := by decide +kernel
theorem fw_v_w0_2 : fw_ac (fun a c => fw_all (fun t => fw_if (Nat.beq t 0) true (fw_solve fw_adj1 fw_TO1 fw_NX1 fw_FS1 fw_E1 0 t ((0 + t) % 7) (fw_LF10 a 2 c) (fun _ n => fw_if (Nat.beq t 0) (Nat.beq n 0) (Nat.ble n 1048576)))) 8) = true := by decide +kernel
theorem fw_v_w0_3 : fw_ac (fun a c => fw_all (fun t => fw_if (Nat.beq t 0) true (fw_solve fw_adj1 fw_TO1 fw_NX1 fw_FS1 fw_E1 0 t ((0 + t) % 7) (fw_LF10 a 3 c) (fun _ n => fw_if (Nat.beq t 0) (Nat.beq n 0) (Nat.ble n 1048576)))) 8) = true := by decide +kernel
theorem fw_k_w0 {a b c : Nat} (ha : a < 10) (hb : b < 4) (hc : c < 10) : fw_all (fun t => fw_if (Nat.beq t 0) true (fw_solve fw_adj1 fw_TO1 fw_NX1 fw_FS1 fw_E1 0 t ((0 + t) % 7) (fw_LF10 a b c) (fun _ n => fw_if (Nat.beq t 0) (Nat.beq n 0) (Nat.ble n 1048576)))) 8 = true := fw_acB (F := fun a b c => fw_all (fun t => fw_if (Nat.beq t 0) true (fw_solve fw_adj1 fw_TO1 fw_NX1 fw_FS1 fw_E1 0 t ((0 + t) % 7) (fw_LF10 a b c) (fun _ n => fw_if (Nat.beq t 0) (Nat.beq n 0) (Nat.ble n 1048576)))) 8) fw_v_w0_0 fw_v_w0_1 fw_v_w0_2 fw_v_w0_3 ha hb hc
theorem fw_v_w1_0 : fw_ac (fun a c => fw_all (fun t => fw_if (Nat.beq t 1) true (fw_solve fw_adj1 fw_TO1 fw_NX1 fw_FS1 fw_E1 1 t ((1 + t) % 7) (fw_LF10 a 0 c) (fun _ n => fw_if (Nat.beq t 0) (Nat.beq n 0) (Nat.ble n 1048576)))) 8) = true := by decide +kernel
theorem fw_v_w1_1 : fw_ac (fun a c => fw_all (fun t => fw_if (Nat.beq t 1) true (fw_solve fw_adj1 fw_TO1 fw_NX1 fw_FS1 fw_E1 1 t ((1 + t) % 7) (fw_LF10 a 1 c) (fun _ n => fw_if (Nat.beq t 0) (Nat.beq n 0) (Nat.ble n 1048576)))) 8) = true := by decide +kernel
theorem fw_v_w1_2 : fw_ac (fun a c => fw_all (fun t => fw_if (Nat.beq t 1) true (fw_solve fw_adj1 fw_TO1 fw_NX1 fw_FS1 fw_E1 1 t ((1 + t) % 7) (fw_LF10 a 2 c) (fun _ n => fw_if (Nat.beq t 0) (Nat.beq n 0) (Nat.ble n 1048576)))) 8) = true := by decide +kernel
theorem fw_v_w1_3 : fw_ac (fun a c => fw_all (fun t => fw_if (Nat.beq t 1) true (fw_solve fw_adj1 fw_TO1 fw_NX1 fw_FS1 fw_E1 1 t ((1 + t) % 7) (fw_LF10 a 3 c) (fun _ n => fw_if (Nat.beq t 0) (Nat.beq n 0) (Nat.ble n 1048576)))) 8) = true := by decide +kernel
theorem fw_k_w1 {a b c : Nat} (ha : a < 10) (hb : b < 4) (hc : c < 10) : fw_all (fun t => fw_if (Nat.beq t 1) true (fw_solve fw_adj1 fw_TO1 fw_NX1 fw_FS1 fw_E1 1 t ((1 + t) % 7) (fw_LF10 a b c) (fun _ n => fw_if (Nat.beq t 0) (Nat.beq n 0) (Nat.ble n 1048576)))) 8 = true := fw_acB (F := fun a b c => fw_all (fun t => fw_if (Nat.beq t 1) true (fw_solve fw_adj1 fw_TO1 fw_NX1 fw_FS1 fw_E1 1 t ((1 + t) % 7) (fw_LF10 a b c) (fun _ n => fw_if (Nat.beq t 0) (Nat.beq n 0) (Nat.ble n 1048576)))) 8) fw_v_w1_0 fw_v_w1_1 fw_v_w1_2 fw_v_w1_3 ha hb hc
theorem fw_v_w2_0 : fw_ac (fun a c => fw_all (fun t => fw_if (Nat.beq t 2) true (fw_solve fw_adj1 fw_TO1 fw_NX1 fw_FS1 fw_E1 2 t ((2 + t) % 7) (fw_LF10 a 0 c) (fun _ n => fw_if (Nat.beq t 0) (Nat.beq n 0) (Nat.ble n 1048576)))) 8) = true := by decide +kernel
theorem fw_v_w2_1 : fw_ac (fun a c => fw_all (fun t => fw_if (Nat.beq t 2) true (fw_solve fw_adj1 fw_TO1 fw_NX1 fw_FS1 fw_E1 2 t ((2 + t) % 7) (fw_LF10 a 1 c) (fun _ n => fw_if (Nat.beq t 0) (Nat.beq n 0) (Nat.ble n 1048576)))) 8) = true := by decide +kernel
theorem fw_v_w2_2 : fw_ac (fun a c => fw_all (fun t => fw_if (Nat.beq t 2) true (fw_solve fw_adj1 fw_TO1 fw_NX1 fw_FS1 fw_E1 2 t ((2 + t) % 7) (fw_LF10 a 2 c) (fun _ n => fw_if (Nat.beq t 0) (Nat.beq n 0) (Nat.ble n 1048576)))) 8) = true := by decide +kernel
theorem fw_v_w2_3 : fw_ac (fun a c => fw_all (fun t => fw_if (Nat.beq t 2) true (fw_solve fw_adj1 fw_TO1 fw_NX1 fw_FS1 fw_E1 2 t ((2 + t) % 7) (fw_LF10 a 3 c) (fun _ n => fw_if (Nat.beq t 0) (Nat.beq n 0) (Nat.ble n 1048576)))) 8) = true := by decide +kernel
theorem fw_k_w2 {a b c : Nat} (ha : a < 10) (hb : b < 4) (hc : c < 10) : fw_all (fun t => fw_if (Nat.beq t 2) true (fw_solve fw_adj1 fw_TO1 fw_NX1 fw_FS1 fw_E1 2 t ((2 + t) % 7) (fw_LF10 a b c) (fun _ n => fw_if (Nat.beq t 0) (Nat.beq n 0) (Nat.ble n 1048576)))) 8 = true := fw_acB (F := fun a b c => fw_all (fun t => fw_if (Nat.beq t 2) true (fw_solve fw_adj1 fw_TO1 fw_NX1 fw_FS1 fw_E1 2 t ((2 + t) % 7) (fw_LF10 a b c) (fun _ n => fw_if (Nat.beq t 0) (Nat.beq n 0) (Nat.ble n 1048576)))) 8) fw_v_w2_0 fw_v_w2_1 fw_v_w2_2 fw_v_w2_3 ha hb hc
theorem fw_v_w3_0 : fw_ac (fun a c => fw_all (fun t => fw_if (Nat.beq t 3) true (fw_solve fw_adj1 fw_TO1 fw_NX1 fw_FS1 fw_E1 3 t ((3 + t) % 7) (fw_LF10 a 0 c) (fun _ n => fw_if (Nat.beq t 0) (Nat.beq n 0) (Nat.ble n 1048576)))) 8) = true := by decide +kernel
theorem fw_v_w3_1 : fw_ac (fun a c => fw_all (fun t => fw_if (Nat.beq t 3) true (fw_solve fw_adj1 fw_TO1 fw_NX1 fw_FS1 fw_E1 3 t ((3 + t) % 7) (fw_LF10 a 1 c) (fun _ n => fw_if (Nat.beq t 0) (Nat.beq n 0) (Nat.ble n 1048576)))) 8) = true := by decide +kernel
theorem fw_v_w3_2 : fw_ac (fun a c => fw_all (fun t => fw_if (Nat.beq t 3) true (fw_solve fw_adj1 fw_TO1 fw_NX1 fw_FS1 fw_E1 3 t ((3 + t) % 7) (fw_LF10 a 2 c) (fun _ n => fw_if (Nat.beq t 0) (Nat.beq n 0) (Nat.ble n 1048576)))) 8) = true := by decide +kernel
theorem fw_v_w3_3 : fw_ac (fun a c => fw_all (fun t => fw_if (Nat.beq t 3) true (fw_solve fw_adj1 fw_TO1 fw_NX1 fw_FS1 fw_E1 3 t ((3 + t) % 7) (fw_LF10 a 3 c) (fun _ n => fw_if (Nat.beq t 0) (Nat.beq n 0) (Nat.ble n 1048576)))) 8) = true := by decide +kernel
theorem fw_k_w3 {a b c : Nat} (ha : a < 10) (hb : b < 4) (hc : c < 10) : fw_all (fun t => fw_if (Nat.beq t 3) true (fw_solve fw_adj1 fw_TO1 fw_NX1 fw_FS1 fw_E1 3 t ((3 + t) % 7) (fw_LF10 a b c) (fun _ n => fw_if (Nat.beq t 0) (Nat.beq n 0) (Nat.ble n 1048576)))) 8 = true := fw_acB (F := fun a b c => fw_all (fun t => fw_if (Nat.beq t 3) true (fw_solve fw_adj1 fw_TO1 fw_NX1 fw_FS1 fw_E1 3 t ((3 + t) % 7) (fw_LF10 a b c) (fun _ n => fw_if (Nat.beq t 0) (Nat.beq n 0) (Nat.ble n 1048576)))) 8) fw_v_w3_0 fw_v_w3_1 fw_v_w3_2 fw_v_w3_3 ha hb hc
theorem fw_v_w4_0 : fw_ac (fun a c => fw_all (fun t => fw_if (Nat.beq t 4) true (fw_solve fw_adj1 fw_TO1 fw_NX1 fw_FS1 fw_E1 4 t ((4 + t) % 7) (fw_LF10 a 0 c) (fun _ n => fw_if (Nat.beq t 0) (Nat.beq n 0) (Nat.ble n 1048576)))) 8) = true := by decide +kernel
theorem fw_v_w4_1 : fw_ac (fun a c => fw_all (fun t => fw_if (Nat.beq t 4) true (fw_solve fw_adj1 fw_TO1 fw_NX1 fw_FS1 fw_E1 4 t ((4 + t) % 7) (fw_LF10 a 1 c) (fun _ n => fw_if (Nat.beq t 0) (Nat.beq n 0) (Nat.ble n 1048576)))) 8) = true := by decide +kernel
theorem fw_v_w4_2 : fw_ac (fun a c => fw_all (fun t => fw_if (Nat.beq t 4) true (fw_solve fw_adj1 fw_TO1 fw_NX1 fw_FS1 fw_E1 4 t ((4 + t) % 7) (fw_LF10 a 2 c) (fun _ n => fw_if (Nat.beq t 0) (Nat.beq n 0) (Nat.ble n 1048576)))) 8) = true := by decide +kernel
theorem fw_v_w4_3 : fw_ac (fun a c => fw_all (fun t => fw_if (Nat.beq t 4) true (fw_solve fw_adj1 fw_TO1 fw_NX1 fw_FS1 fw_E1 4 t ((4 + t) % 7) (fw_LF10 a 3 c) (fun _ n => fw_if (Nat.beq t 0) (Nat.beq n 0) (Nat.ble n 1048576)))) 8) = true := by decide +kernel
theorem fw_k_w4 {a b c : Nat} (ha : a < 10) (hb : b < 4) (hc : c < 10) : fw_all (fun t => fw_if (Nat.beq t 4) true (fw_solve fw_adj1 fw_TO1 fw_NX1 fw_FS1 fw_E1 4 t ((4 + t) % 7) (fw_LF10 a b c) (fun _ n => fw_if (Nat.beq t 0) (Nat.beq n 0) (Nat.ble n 1048576)))) 8 = true := fw_acB (F := fun a b c => fw_all (fun t => fw_if (Nat.beq t 4) true (fw_solve fw_adj1 fw_TO1 fw_NX1 fw_FS1 fw_E1 4 t ((4 + t) % 7) (fw_LF10 a b c) (fun _ n => fw_if (Nat.beq t 0) (Nat.beq n 0) (Nat.ble n 1048576)))) 8) fw_v_w4_0 fw_v_w4_1 fw_v_w4_2 fw_v_w4_3 ha hb hc
theorem fw_v_w5_0 : fw_ac (fun a c => fw_all (fun t => fw_if (Nat.beq t 5) true (fw_solve fw_adj1 fw_TO1 fw_NX1 fw_FS1 fw_E1 5 t ((5 + t) % 7) (fw_LF10 a 0 c) (fun _ n => fw_if (Nat.beq t 0) (Nat.beq n 0) (Nat.ble n 1048576)))) 8) = true := by decide +kernel
theorem fw_v_w5_1 : fw_ac (fun a c => fw_all (fun t => fw_if (Nat.beq t 5) true (fw_solve fw_adj1 fw_TO1 fw_NX1 fw_FS1 fw_E1 5 t ((5 + t) % 7) (fw_LF10 a 1 c) (fun _ n => fw_if (Nat.beq t 0) (Nat.beq n 0) (Nat.ble n 1048576)))) 8) = true := by decide +kernel
theorem fw_v_w5_2 : fw_ac (fun a c => fw_all (fun t => fw_if (Nat.beq t 5) true (fw_solve fw_adj1 fw_TO1 fw_NX1 fw_FS1 fw_E1 5 t ((5 + t) % 7) (fw_LF10 a 2 c) (fun _ n => fw_if (Nat.beq t 0) (Nat.beq n 0) (Nat.ble n 1048576)))) 8) = true := by decide +kernel
theorem fw_v_w5_3 : fw_ac (fun a c => fw_all (fun t => fw_if (Nat.beq t 5) true (fw_solve fw_adj1 fw_TO1 fw_NX1 fw_FS1 fw_E1 5 t ((5 + t) % 7) (fw_LF10 a 3 c) (fun _ n => fw_if (Nat.beq t 0) (Nat.beq n 0) (Nat.ble n 1048576)))) 8) = true := by decide +kernel
theorem fw_k_w5 {a b c : Nat} (ha : a < 10) (hb : b < 4) (hc : c < 10) : fw_all (fun t => fw_if (Nat.beq t 5) true (fw_solve fw_adj1 fw_TO1 fw_NX1 fw_FS1 fw_E1 5 t ((5 + t) % 7) (fw_LF10 a b c) (fun _ n => fw_if (Nat.beq t 0) (Nat.beq n 0) (Nat.ble n 1048576)))) 8 = true := fw_acB (F := fun a b c => fw_all (fun t => fw_if (Nat.beq t 5) true (fw_solve fw_adj1 fw_TO1 fw_NX1 fw_FS1 fw_E1 5 t ((5 + t) % 7) (fw_LF10 a b c) (fun _ n => fw_if (Nat.beq t 0) (Nat.beq n 0) (Nat.ble n 1048576)))) 8) fw_v_w5_0 fw_v_w5_1 fw_v_w5_2 fw_v_w5_3 ha hb hc
theorem fw_v_w6_0 : fw_ac (fun a c => fw_all (fun t => fw_if (Nat.beq t 6) true (fw_solve fw_adj1 fw_TO1 fw_NX1 fw_FS1 fw_E1 6 t ((6 + t) % 7) (fw_LF10 a 0 c) (fun _ n => fw_if (Nat.beq t 0) (Nat.beq n 0) (Nat.ble n 1048576)))) 8) = true := by decide +kernel
theorem fw_v_w6_1 : fw_ac (fun a c => fw_all (fun t => fw_if (Nat.beq t 6) true (fw_solve fw_adj1 fw_TO1 fw_NX1 fw_FS1 fw_E1 6 t ((6 + t) % 7) (fw_LF10 a 1 c) (fun _ n => fw_if (Nat.beq t 0) (Nat.beq n 0) (Nat.ble n 1048576)))) 8) = true := by decide +kernel
theorem fw_v_w6_2 : fw_ac (fun a c => fw_all (fun t => fw_if (Nat.beq t 6) true (fw_solve fw_adj1 fw_TO1 fw_NX1 fw_FS1 fw_E1 6 t ((6 + t) % 7) (fw_LF10 a 2 c) (fun _ n => fw_if (Nat.beq t 0) (Nat.beq n 0) (Nat.ble n 1048576)))) 8) = true := by decide +kernel
theorem fw_v_w6_3 : fw_ac (fun a c => fw_all (fun t => fw_if (Nat.beq t 6) true (fw_solve fw_adj1 fw_TO1 fw_NX1 fw_FS1 fw_E1 6 t ((6 + t) % 7) (fw_LF10 a 3 c) (fun _ n => fw_if (Nat.beq t 0) (Nat.beq n 0) (Nat.ble n 1048576)))) 8) = true := by decide +kernel
theorem fw_k_w6 {a b c : Nat} (ha : a < 10) (hb : b < 4) (hc : c < 10) : fw_all (fun t => fw_if (Nat.beq t 6) true (fw_solve fw_adj1 fw_TO1 fw_NX1 fw_FS1 fw_E1 6 t ((6 + t) % 7) (fw_LF10 a b c) (fun _ n => fw_if (Nat.beq t 0) (Nat.beq n 0) (Nat.ble n 1048576)))) 8 = true := fw_acB (F := fun a b c => fw_all (fun t => fw_if (Nat.beq t 6) true (fw_solve fw_adj1 fw_TO1 fw_NX1 fw_FS1 fw_E1 6 t ((6 + t) % 7) (fw_LF10 a b c) (fun _ n => fw_if (Nat.beq t 0) (Nat.beq n 0) (Nat.ble n 1048576)))) 8) fw_v_w6_0 fw_v_w6_1 fw_v_w6_2 fw_v_w6_3 ha hb hc
theorem fw_v_w7_0 : fw_ac (fun a c => fw_all (fun t => fw_if (Nat.beq t 7) true (fw_solve fw_adj1 fw_TO1 fw_NX1 fw_FS1 fw_E1 7 t ((7 + t) % 7) (fw_LF10 a 0 c) (fun _ n => fw_if (Nat.beq t 0) (Nat.beq n 0) (Nat.ble n 1048576)))) 8) = true := by decide +kernel
theorem fw_v_w7_1 : fw_ac (fun a c => fw_all (fun t => fw_if (Nat.beq t 7) true (fw_solve fw_adj1 fw_TO1 fw_NX1 fw_FS1 fw_E1 7 t ((7 + t) % 7) (fw_LF10 a 1 c) (fun _ n => fw_if (Nat.beq t 0) (Nat.beq n 0) (Nat.ble n 1048576)))) 8) = true := by decide +kernel
theorem fw_v_w7_2 : fw_ac (fun a c => fw_all (fun t => fw_if (Nat.beq t 7) true (fw_solve fw_adj1 fw_TO1 fw_NX1 fw_FS1 fw_E1 7 t ((7 + t) % 7) (fw_LF10 a 2 c) (fun _ n => fw_if (Nat.beq t 0) (Nat.beq n 0) (Nat.ble n 1048576)))) 8) = true := by decide +kernel
theorem fw_v_w7_3 : fw_ac (fun a c => fw_all (fun t => fw_if (Nat.beq t 7) true (fw_solve fw_adj1 fw_TO1 fw_NX1 fw_FS1 fw_E1 7 t ((7 + t) % 7) (fw_LF10 a 3 c) (fun _ n => fw_if (Nat.beq t 0) (Nat.beq n 0) (Nat.ble n 1048576)))) 8) = true := by decide +kernel
theorem fw_k_w7 {a b c : Nat} (ha : a < 10) (hb : b < 4) (hc : c < 10) : fw_all (fun t => fw_if (Nat.beq t 7) true (fw_solve fw_adj1 fw_TO1 fw_NX1 fw_FS1 fw_E1 7 t ((7 + t) % 7) (fw_LF10 a b c) (fun _ n => fw_if (Nat.beq t 0) (Nat.beq n 0) (Nat.ble n 1048576)))) 8 = true := fw_acB (F := fun a b c => fw_all (fun t => fw_if (Nat.beq t 7) true (fw_solve fw_adj1 fw_TO1 fw_NX1 fw_FS1 fw_E1 7 t ((7 + t) % 7) (fw_LF10 a b c) (fun _ n => fw_if (Nat.beq t 0) (Nat.beq n 0) (Nat.ble n 1048576)))) 8) fw_v_w7_0 fw_v_w7_1 fw_v_w7_2 fw_v_w7_3 ha hb hc
end
section
/-! evaluation: throttled nets (written by mkconst.js) -/
theorem fw_v_thr_0_0 : fw_ac (fun a c => fw_solve fw_adjs1 fw_TOs1 fw_NXs1 fw_FSs1 fw_Es1 0 7 3 (fw_LF13 a 0 c 0) (fun _ n => Nat.beq n (fw_less a 0 c 0))) = true := by decide +kernel
theorem fw_v_thr_0_1 : fw_ac (fun a c => fw_solve fw_adjs1 fw_TOs1 fw_NXs1 fw_FSs1 fw_Es1 0 7 3 (fw_LF13 a 1 c 0) (fun _ n => Nat.beq n (fw_less a 1 c 0))) = true := by decide +kernel
theorem fw_v_thr_0_2 : fw_ac (fun a c => fw_solve fw_adjs1 fw_TOs1 fw_NXs1 fw_FSs1 fw_Es1 0 7 3 (fw_LF13 a 2 c 0) (fun _ n => Nat.beq n (fw_less a 2 c 0))) = true := by decide +kernel
theorem fw_v_thr_0_3 : fw_ac (fun a c => fw_solve fw_adjs1 fw_TOs1 fw_NXs1 fw_FSs1 fw_Es1 0 7 3 (fw_LF13 a 3 c 0) (fun _ n => Nat.beq n (fw_less a 3 c 0))) = true := by decide +kernel
theorem fw_k_thr_0 {a b c : Nat} (ha : a < 10) (hb : b < 4) (hc : c < 10) : fw_solve fw_adjs1 fw_TOs1 fw_NXs1 fw_FSs1 fw_Es1 0 7 3 (fw_LF13 a b c 0) (fun _ n => Nat.beq n (fw_less a b c 0)) = true := fw_acB (F := fun a b c => fw_solve fw_adjs1 fw_TOs1 fw_NXs1 fw_FSs1 fw_Es1 0 7 3 (fw_LF13 a b c 0) (fun _ n => Nat.beq n (fw_less a b c 0))) fw_v_thr_0_0 fw_v_thr_0_1 fw_v_thr_0_2 fw_v_thr_0_3 ha hb hc
theorem fw_v_lay13_0_0 : fw_ac (fun a c => fw_lay fw_PR1 fw_FR1 fw_TT1 (fw_RM1 a 0 c) 3 0 7 0 (fw_is fw_TOs1 fw_NXs1 fw_FSs1 (fw_LF13 a 0 c 0) fw_Es1)) = true := by decide +kernel
theorem fw_v_lay13_0_1 : fw_ac (fun a c => fw_lay fw_PR1 fw_FR1 fw_TT1 (fw_RM1 a 1 c) 3 0 7 0 (fw_is fw_TOs1 fw_NXs1 fw_FSs1 (fw_LF13 a 1 c 0) fw_Es1)) = true := by decide +kernel
theorem fw_v_lay13_0_2 : fw_ac (fun a c => fw_lay fw_PR1 fw_FR1 fw_TT1 (fw_RM1 a 2 c) 3 0 7 0 (fw_is fw_TOs1 fw_NXs1 fw_FSs1 (fw_LF13 a 2 c 0) fw_Es1)) = true := by decide +kernel
theorem fw_v_lay13_0_3 : fw_ac (fun a c => fw_lay fw_PR1 fw_FR1 fw_TT1 (fw_RM1 a 3 c) 3 0 7 0 (fw_is fw_TOs1 fw_NXs1 fw_FSs1 (fw_LF13 a 3 c 0) fw_Es1)) = true := by decide +kernel
theorem fw_k_lay13_0 {a b c : Nat} (ha : a < 10) (hb : b < 4) (hc : c < 10) : fw_lay fw_PR1 fw_FR1 fw_TT1 (fw_RM1 a b c) 3 0 7 0 (fw_is fw_TOs1 fw_NXs1 fw_FSs1 (fw_LF13 a b c 0) fw_Es1) = true := fw_acB (F := fun a b c => fw_lay fw_PR1 fw_FR1 fw_TT1 (fw_RM1 a b c) 3 0 7 0 (fw_is fw_TOs1 fw_NXs1 fw_FSs1 (fw_LF13 a b c 0) fw_Es1)) fw_v_lay13_0_0 fw_v_lay13_0_1 fw_v_lay13_0_2 fw_v_lay13_0_3 ha hb hc
theorem fw_v_thr_1_0 : fw_ac (fun a c => fw_solve fw_adjs1 fw_TOs1 fw_NXs1 fw_FSs1 fw_Es1 0 7 3 (fw_LF13 a 0 c 1) (fun _ n => Nat.beq n (fw_less a 0 c 1))) = true := by decide +kernel
theorem fw_v_thr_1_1 : fw_ac (fun a c => fw_solve fw_adjs1 fw_TOs1 fw_NXs1 fw_FSs1 fw_Es1 0 7 3 (fw_LF13 a 1 c 1) (fun _ n => Nat.beq n (fw_less a 1 c 1))) = true := by decide +kernel
theorem fw_v_thr_1_2 : fw_ac (fun a c => fw_solve fw_adjs1 fw_TOs1 fw_NXs1 fw_FSs1 fw_Es1 0 7 3 (fw_LF13 a 2 c 1) (fun _ n => Nat.beq n (fw_less a 2 c 1))) = true := by decide +kernel
theorem fw_v_thr_1_3 : fw_ac (fun a c => fw_solve fw_adjs1 fw_TOs1 fw_NXs1 fw_FSs1 fw_Es1 0 7 3 (fw_LF13 a 3 c 1) (fun _ n => Nat.beq n (fw_less a 3 c 1))) = true := by decide +kernel
theorem fw_k_thr_1 {a b c : Nat} (ha : a < 10) (hb : b < 4) (hc : c < 10) : fw_solve fw_adjs1 fw_TOs1 fw_NXs1 fw_FSs1 fw_Es1 0 7 3 (fw_LF13 a b c 1) (fun _ n => Nat.beq n (fw_less a b c 1)) = true := fw_acB (F := fun a b c => fw_solve fw_adjs1 fw_TOs1 fw_NXs1 fw_FSs1 fw_Es1 0 7 3 (fw_LF13 a b c 1) (fun _ n => Nat.beq n (fw_less a b c 1))) fw_v_thr_1_0 fw_v_thr_1_1 fw_v_thr_1_2 fw_v_thr_1_3 ha hb hc
theorem fw_v_lay13_1_0 : fw_ac (fun a c => fw_lay fw_PR1 fw_FR1 fw_TT1 (fw_RM1 a 0 c) 3 0 7 1 (fw_is fw_TOs1 fw_NXs1 fw_FSs1 (fw_LF13 a 0 c 1) fw_Es1)) = true := by decide +kernel
theorem fw_v_lay13_1_1 : fw_ac (fun a c => fw_lay fw_PR1 fw_FR1 fw_TT1 (fw_RM1 a 1 c) 3 0 7 1 (fw_is fw_TOs1 fw_NXs1 fw_FSs1 (fw_LF13 a 1 c 1) fw_Es1)) = true := by decide +kernel
theorem fw_v_lay13_1_2 : fw_ac (fun a c => fw_lay fw_PR1 fw_FR1 fw_TT1 (fw_RM1 a 2 c) 3 0 7 1 (fw_is fw_TOs1 fw_NXs1 fw_FSs1 (fw_LF13 a 2 c 1) fw_Es1)) = true := by decide +kernel
theorem fw_v_lay13_1_3 : fw_ac (fun a c => fw_lay fw_PR1 fw_FR1 fw_TT1 (fw_RM1 a 3 c) 3 0 7 1 (fw_is fw_TOs1 fw_NXs1 fw_FSs1 (fw_LF13 a 3 c 1) fw_Es1)) = true := by decide +kernel
theorem fw_k_lay13_1 {a b c : Nat} (ha : a < 10) (hb : b < 4) (hc : c < 10) : fw_lay fw_PR1 fw_FR1 fw_TT1 (fw_RM1 a b c) 3 0 7 1 (fw_is fw_TOs1 fw_NXs1 fw_FSs1 (fw_LF13 a b c 1) fw_Es1) = true := fw_acB (F := fun a b c => fw_lay fw_PR1 fw_FR1 fw_TT1 (fw_RM1 a b c) 3 0 7 1 (fw_is fw_TOs1 fw_NXs1 fw_FSs1 (fw_LF13 a b c 1) fw_Es1)) fw_v_lay13_1_0 fw_v_lay13_1_1 fw_v_lay13_1_2 fw_v_lay13_1_3 ha hb hc
theorem fw_v_thr_2_0 : fw_ac (fun a c => fw_solve fw_adjs1 fw_TOs1 fw_NXs1 fw_FSs1 fw_Es1 0 7 3 (fw_LF13 a 0 c 2) (fun _ n => Nat.beq n (fw_less a 0 c 2))) = true := by decide +kernel
theorem fw_v_thr_2_1 : fw_ac (fun a c => fw_solve fw_adjs1 fw_TOs1 fw_NXs1 fw_FSs1 fw_Es1 0 7 3 (fw_LF13 a 1 c 2) (fun _ n => Nat.beq n (fw_less a 1 c 2))) = true := by decide +kernel
theorem fw_v_thr_2_2 : fw_ac (fun a c => fw_solve fw_adjs1 fw_TOs1 fw_NXs1 fw_FSs1 fw_Es1 0 7 3 (fw_LF13 a 2 c 2) (fun _ n => Nat.beq n (fw_less a 2 c 2))) = true := by decide +kernel
theorem fw_v_thr_2_3 : fw_ac (fun a c => fw_solve fw_adjs1 fw_TOs1 fw_NXs1 fw_FSs1 fw_Es1 0 7 3 (fw_LF13 a 3 c 2) (fun _ n => Nat.beq n (fw_less a 3 c 2))) = true := by decide +kernel
theorem fw_k_thr_2 {a b c : Nat} (ha : a < 10) (hb : b < 4) (hc : c < 10) : fw_solve fw_adjs1 fw_TOs1 fw_NXs1 fw_FSs1 fw_Es1 0 7 3 (fw_LF13 a b c 2) (fun _ n => Nat.beq n (fw_less a b c 2)) = true := fw_acB (F := fun a b c => fw_solve fw_adjs1 fw_TOs1 fw_NXs1 fw_FSs1 fw_Es1 0 7 3 (fw_LF13 a b c 2) (fun _ n => Nat.beq n (fw_less a b c 2))) fw_v_thr_2_0 fw_v_thr_2_1 fw_v_thr_2_2 fw_v_thr_2_3 ha hb hc
theorem fw_v_lay13_2_0 : fw_ac (fun a c => fw_lay fw_PR1 fw_FR1 fw_TT1 (fw_RM1 a 0 c) 3 0 7 2 (fw_is fw_TOs1 fw_NXs1 fw_FSs1 (fw_LF13 a 0 c 2) fw_Es1)) = true := by decide +kernel
theorem fw_v_lay13_2_1 : fw_ac (fun a c => fw_lay fw_PR1 fw_FR1 fw_TT1 (fw_RM1 a 1 c) 3 0 7 2 (fw_is fw_TOs1 fw_NXs1 fw_FSs1 (fw_LF13 a 1 c 2) fw_Es1)) = true := by decide +kernel
theorem fw_v_lay13_2_2 : fw_ac (fun a c => fw_lay fw_PR1 fw_FR1 fw_TT1 (fw_RM1 a 2 c) 3 0 7 2 (fw_is fw_TOs1 fw_NXs1 fw_FSs1 (fw_LF13 a 2 c 2) fw_Es1)) = true := by decide +kernel
theorem fw_v_lay13_2_3 : fw_ac (fun a c => fw_lay fw_PR1 fw_FR1 fw_TT1 (fw_RM1 a 3 c) 3 0 7 2 (fw_is fw_TOs1 fw_NXs1 fw_FSs1 (fw_LF13 a 3 c 2) fw_Es1)) = true := by decide +kernel
theorem fw_k_lay13_2 {a b c : Nat} (ha : a < 10) (hb : b < 4) (hc : c < 10) : fw_lay fw_PR1 fw_FR1 fw_TT1 (fw_RM1 a b c) 3 0 7 2 (fw_is fw_TOs1 fw_NXs1 fw_FSs1 (fw_LF13 a b c 2) fw_Es1) = true := fw_acB (F := fun a b c => fw_lay fw_PR1 fw_FR1 fw_TT1 (fw_RM1 a b c) 3 0 7 2 (fw_is fw_TOs1 fw_NXs1 fw_FSs1 (fw_LF13 a b c 2) fw_Es1)) fw_v_lay13_2_0 fw_v_lay13_2_1 fw_v_lay13_2_2 fw_v_lay13_2_3 ha hb hc
theorem fw_v_thr_3_0 : fw_ac (fun a c => fw_solve fw_adjs1 fw_TOs1 fw_NXs1 fw_FSs1 fw_Es1 0 7 3 (fw_LF13 a 0 c 3) (fun _ n => Nat.beq n (fw_less a 0 c 3))) = true := by decide +kernel
theorem fw_v_thr_3_1 : fw_ac (fun a c => fw_solve fw_adjs1 fw_TOs1 fw_NXs1 fw_FSs1 fw_Es1 0 7 3 (fw_LF13 a 1 c 3) (fun _ n => Nat.beq n (fw_less a 1 c 3))) = true := by decide +kernel
theorem fw_v_thr_3_2 : fw_ac (fun a c => fw_solve fw_adjs1 fw_TOs1 fw_NXs1 fw_FSs1 fw_Es1 0 7 3 (fw_LF13 a 2 c 3) (fun _ n => Nat.beq n (fw_less a 2 c 3))) = true := by decide +kernel
theorem fw_v_thr_3_3 : fw_ac (fun a c => fw_solve fw_adjs1 fw_TOs1 fw_NXs1 fw_FSs1 fw_Es1 0 7 3 (fw_LF13 a 3 c 3) (fun _ n => Nat.beq n (fw_less a 3 c 3))) = true := by decide +kernel
theorem fw_k_thr_3 {a b c : Nat} (ha : a < 10) (hb : b < 4) (hc : c < 10) : fw_solve fw_adjs1 fw_TOs1 fw_NXs1 fw_FSs1 fw_Es1 0 7 3 (fw_LF13 a b c 3) (fun _ n => Nat.beq n (fw_less a b c 3)) = true := fw_acB (F := fun a b c => fw_solve fw_adjs1 fw_TOs1 fw_NXs1 fw_FSs1 fw_Es1 0 7 3 (fw_LF13 a b c 3) (fun _ n => Nat.beq n (fw_less a b c 3))) fw_v_thr_3_0 fw_v_thr_3_1 fw_v_thr_3_2 fw_v_thr_3_3 ha hb hc
theorem fw_v_lay13_3_0 : fw_ac (fun a c => fw_lay fw_PR1 fw_FR1 fw_TT1 (fw_RM1 a 0 c) 3 0 7 3 (fw_is fw_TOs1 fw_NXs1 fw_FSs1 (fw_LF13 a 0 c 3) fw_Es1)) = true := by decide +kernel
theorem fw_v_lay13_3_1 : fw_ac (fun a c => fw_lay fw_PR1 fw_FR1 fw_TT1 (fw_RM1 a 1 c) 3 0 7 3 (fw_is fw_TOs1 fw_NXs1 fw_FSs1 (fw_LF13 a 1 c 3) fw_Es1)) = true := by decide +kernel
theorem fw_v_lay13_3_2 : fw_ac (fun a c => fw_lay fw_PR1 fw_FR1 fw_TT1 (fw_RM1 a 2 c) 3 0 7 3 (fw_is fw_TOs1 fw_NXs1 fw_FSs1 (fw_LF13 a 2 c 3) fw_Es1)) = true := by decide +kernel
theorem fw_v_lay13_3_3 : fw_ac (fun a c => fw_lay fw_PR1 fw_FR1 fw_TT1 (fw_RM1 a 3 c) 3 0 7 3 (fw_is fw_TOs1 fw_NXs1 fw_FSs1 (fw_LF13 a 3 c 3) fw_Es1)) = true := by decide +kernel
theorem fw_k_lay13_3 {a b c : Nat} (ha : a < 10) (hb : b < 4) (hc : c < 10) : fw_lay fw_PR1 fw_FR1 fw_TT1 (fw_RM1 a b c) 3 0 7 3 (fw_is fw_TOs1 fw_NXs1 fw_FSs1 (fw_LF13 a b c 3) fw_Es1) = true := fw_acB (F := fun a b c => fw_lay fw_PR1 fw_FR1 fw_TT1 (fw_RM1 a b c) 3 0 7 3 (fw_is fw_TOs1 fw_NXs1 fw_FSs1 (fw_LF13 a b c 3) fw_Es1)) fw_v_lay13_3_0 fw_v_lay13_3_1 fw_v_lay13_3_2 fw_v_lay13_3_3 ha hb hc
theorem fw_v_thr_4_0 : fw_ac (fun a c => fw_solve fw_adjs1 fw_TOs1 fw_NXs1 fw_FSs1 fw_Es1 0 7 3 (fw_LF13 a 0 c 4) (fun _ n => Nat.beq n (fw_less a 0 c 4))) = true := by decide +kernel
theorem fw_v_thr_4_1 : fw_ac (fun a c => fw_solve fw_adjs1 fw_TOs1 fw_NXs1 fw_FSs1 fw_Es1 0 7 3 (fw_LF13 a 1 c 4) (fun _ n => Nat.beq n (fw_less a 1 c 4))) = true := by decide +kernel
theorem fw_v_thr_4_2 : fw_ac (fun a c => fw_solve fw_adjs1 fw_TOs1 fw_NXs1 fw_FSs1 fw_Es1 0 7 3 (fw_LF13 a 2 c 4) (fun _ n => Nat.beq n (fw_less a 2 c 4))) = true := by decide +kernel
theorem fw_v_thr_4_3 : fw_ac (fun a c => fw_solve fw_adjs1 fw_TOs1 fw_NXs1 fw_FSs1 fw_Es1 0 7 3 (fw_LF13 a 3 c 4) (fun _ n => Nat.beq n (fw_less a 3 c 4))) = true := by decide +kernel
theorem fw_k_thr_4 {a b c : Nat} (ha : a < 10) (hb : b < 4) (hc : c < 10) : fw_solve fw_adjs1 fw_TOs1 fw_NXs1 fw_FSs1 fw_Es1 0 7 3 (fw_LF13 a b c 4) (fun _ n => Nat.beq n (fw_less a b c 4)) = true := fw_acB (F := fun a b c => fw_solve fw_adjs1 fw_TOs1 fw_NXs1 fw_FSs1 fw_Es1 0 7 3 (fw_LF13 a b c 4) (fun _ n => Nat.beq n (fw_less a b c 4))) fw_v_thr_4_0 fw_v_thr_4_1 fw_v_thr_4_2 fw_v_thr_4_3 ha hb hc
theorem fw_v_lay13_4_0 : fw_ac (fun a c => fw_lay fw_PR1 fw_FR1 fw_TT1 (fw_RM1 a 0 c) 3 0 7 4 (fw_is fw_TOs1 fw_NXs1 fw_FSs1 (fw_LF13 a 0 c 4) fw_Es1)) = true := by decide +kernel
theorem fw_v_lay13_4_1 : fw_ac (fun a c => fw_lay fw_PR1 fw_FR1 fw_TT1 (fw_RM1 a 1 c) 3 0 7 4 (fw_is fw_TOs1 fw_NXs1 fw_FSs1 (fw_LF13 a 1 c 4) fw_Es1)) = true := by decide +kernel
theorem fw_v_lay13_4_2 : fw_ac (fun a c => fw_lay fw_PR1 fw_FR1 fw_TT1 (fw_RM1 a 2 c) 3 0 7 4 (fw_is fw_TOs1 fw_NXs1 fw_FSs1 (fw_LF13 a 2 c 4) fw_Es1)) = true := by decide +kernel
theorem fw_v_lay13_4_3 : fw_ac (fun a c => fw_lay fw_PR1 fw_FR1 fw_TT1 (fw_RM1 a 3 c) 3 0 7 4 (fw_is fw_TOs1 fw_NXs1 fw_FSs1 (fw_LF13 a 3 c 4) fw_Es1)) = true := by decide +kernel
theorem fw_k_lay13_4 {a b c : Nat} (ha : a < 10) (hb : b < 4) (hc : c < 10) : fw_lay fw_PR1 fw_FR1 fw_TT1 (fw_RM1 a b c) 3 0 7 4 (fw_is fw_TOs1 fw_NXs1 fw_FSs1 (fw_LF13 a b c 4) fw_Es1) = true := fw_acB (F := fun a b c => fw_lay fw_PR1 fw_FR1 fw_TT1 (fw_RM1 a b c) 3 0 7 4 (fw_is fw_TOs1 fw_NXs1 fw_FSs1 (fw_LF13 a b c 4) fw_Es1)) fw_v_lay13_4_0 fw_v_lay13_4_1 fw_v_lay13_4_2 fw_v_lay13_4_3 ha hb hc
theorem fw_v_thr_5_0 : fw_ac (fun a c => fw_solve fw_adjs1 fw_TOs1 fw_NXs1 fw_FSs1 fw_Es1 0 7 3 (fw_LF13 a 0 c 5) (fun _ n => Nat.beq n (fw_less a 0 c 5))) = true := by decide +kernel
theorem fw_v_thr_5_1 : fw_ac (fun a c => fw_solve fw_adjs1 fw_TOs1 fw_NXs1 fw_FSs1 fw_Es1 0 7 3 (fw_LF13 a 1 c 5) (fun _ n => Nat.beq n (fw_less a 1 c 5))) = true := by decide +kernel
theorem fw_v_thr_5_2 : fw_ac (fun a c => fw_solve fw_adjs1 fw_TOs1 fw_NXs1 fw_FSs1 fw_Es1 0 7 3 (fw_LF13 a 2 c 5) (fun _ n => Nat.beq n (fw_less a 2 c 5))) = true := by decide +kernel
theorem fw_v_thr_5_3 : fw_ac (fun a c => fw_solve fw_adjs1 fw_TOs1 fw_NXs1 fw_FSs1 fw_Es1 0 7 3 (fw_LF13 a 3 c 5) (fun _ n => Nat.beq n (fw_less a 3 c 5))) = true := by decide +kernel
theorem fw_k_thr_5 {a b c : Nat} (ha : a < 10) (hb : b < 4) (hc : c < 10) : fw_solve fw_adjs1 fw_TOs1 fw_NXs1 fw_FSs1 fw_Es1 0 7 3 (fw_LF13 a b c 5) (fun _ n => Nat.beq n (fw_less a b c 5)) = true := fw_acB (F := fun a b c => fw_solve fw_adjs1 fw_TOs1 fw_NXs1 fw_FSs1 fw_Es1 0 7 3 (fw_LF13 a b c 5) (fun _ n => Nat.beq n (fw_less a b c 5))) fw_v_thr_5_0 fw_v_thr_5_1 fw_v_thr_5_2 fw_v_thr_5_3 ha hb hc
theorem fw_v_lay13_5_0 : fw_ac (fun a c => fw_lay fw_PR1 fw_FR1 fw_TT1 (fw_RM1 a 0 c) 3 0 7 5 (fw_is fw_TOs1 fw_NXs1 fw_FSs1 (fw_LF13 a 0 c 5) fw_Es1)) = true := by decide +kernel
theorem fw_v_lay13_5_1 : fw_ac (fun a c => fw_lay fw_PR1 fw_FR1 fw_TT1 (fw_RM1 a 1 c) 3 0 7 5 (fw_is fw_TOs1 fw_NXs1 fw_FSs1 (fw_LF13 a 1 c 5) fw_Es1)) = true := by decide +kernel
theorem fw_v_lay13_5_2 : fw_ac (fun a c => fw_lay fw_PR1 fw_FR1 fw_TT1 (fw_RM1 a 2 c) 3 0 7 5 (fw_is fw_TOs1 fw_NXs1 fw_FSs1 (fw_LF13 a 2 c 5) fw_Es1)) = true := by decide +kernel
theorem fw_v_lay13_5_3 : fw_ac (fun a c => fw_lay fw_PR1 fw_FR1 fw_TT1 (fw_RM1 a 3 c) 3 0 7 5 (fw_is fw_TOs1 fw_NXs1 fw_FSs1 (fw_LF13 a 3 c 5) fw_Es1)) = true := by decide +kernel
theorem fw_k_lay13_5 {a b c : Nat} (ha : a < 10) (hb : b < 4) (hc : c < 10) : fw_lay fw_PR1 fw_FR1 fw_TT1 (fw_RM1 a b c) 3 0 7 5 (fw_is fw_TOs1 fw_NXs1 fw_FSs1 (fw_LF13 a b c 5) fw_Es1) = true := fw_acB (F := fun a b c => fw_lay fw_PR1 fw_FR1 fw_TT1 (fw_RM1 a b c) 3 0 7 5 (fw_is fw_TOs1 fw_NXs1 fw_FSs1 (fw_LF13 a b c 5) fw_Es1)) fw_v_lay13_5_0 fw_v_lay13_5_1 fw_v_lay13_5_2 fw_v_lay13_5_3 ha hb hc
/-! evaluation: the rooms from stage to stage (written by mkconst.js) -/
theorem fw_v_rm1_0 : fw_ac (fun a c => Nat.beq (fw_s (fw_s (fw_s (fw_s (fw_s (fw_s (fw_s (fw_s (fw_s (fw_s (fw_s (fw_s (fw_s (fw_s (fw_s 0 0 a) 1 a) 2 a) 3 0) 4 0) 5 0) 6 0) 7 0) 8 0) 9 0) 10 0) 11 0) 12 c) 13 c) 14 c) (fw_RM1 a 0 c)) = true := by decide +kernel
theorem fw_v_rm1_1 : fw_ac (fun a c => Nat.beq (fw_s (fw_s (fw_s (fw_s (fw_s (fw_s (fw_s (fw_s (fw_s (fw_s (fw_s (fw_s (fw_s (fw_s (fw_s 0 0 a) 1 a) 2 a) 3 1) 4 1) 5 1) 6 1) 7 1) 8 1) 9 1) 10 1) 11 1) 12 c) 13 c) 14 c) (fw_RM1 a 1 c)) = true := by decide +kernel
theorem fw_v_rm1_2 : fw_ac (fun a c => Nat.beq (fw_s (fw_s (fw_s (fw_s (fw_s (fw_s (fw_s (fw_s (fw_s (fw_s (fw_s (fw_s (fw_s (fw_s (fw_s 0 0 a) 1 a) 2 a) 3 2) 4 2) 5 2) 6 2) 7 2) 8 2) 9 2) 10 2) 11 2) 12 c) 13 c) 14 c) (fw_RM1 a 2 c)) = true := by decide +kernel
theorem fw_v_rm1_3 : fw_ac (fun a c => Nat.beq (fw_s (fw_s (fw_s (fw_s (fw_s (fw_s (fw_s (fw_s (fw_s (fw_s (fw_s (fw_s (fw_s (fw_s (fw_s 0 0 a) 1 a) 2 a) 3 3) 4 3) 5 3) 6 3) 7 3) 8 3) 9 3) 10 3) 11 3) 12 c) 13 c) 14 c) (fw_RM1 a 3 c)) = true := by decide +kernel
theorem fw_k_rm1 {a b c : Nat} (ha : a < 10) (hb : b < 4) (hc : c < 10) : Nat.beq (fw_s (fw_s (fw_s (fw_s (fw_s (fw_s (fw_s (fw_s (fw_s (fw_s (fw_s (fw_s (fw_s (fw_s (fw_s 0 0 a) 1 a) 2 a) 3 b) 4 b) 5 b) 6 b) 7 b) 8 b) 9 b) 10 b) 11 b) 12 c) 13 c) 14 c) (fw_RM1 a b c) = true := fw_acB (F := fun a b c => Nat.beq (fw_s (fw_s (fw_s (fw_s (fw_s (fw_s (fw_s (fw_s (fw_s (fw_s (fw_s (fw_s (fw_s (fw_s (fw_s 0 0 a) 1 a) 2 a) 3 b) 4 b) 5 b) 6 b) 7 b) 8 b) 9 b) 10 b) 11 b) 12 c) 13 c) 14 c) (fw_RM1 a b c)) fw_v_rm1_0 fw_v_rm1_1 fw_v_rm1_2 fw_v_rm1_3 ha hb hc
theorem fw_k_fr1 : (fw_s (fw_s (fw_s (fw_s (fw_s (fw_s (fw_s (fw_s (fw_s (fw_s (fw_s (fw_s (fw_s (fw_s (fw_s 0 0 0) 1 0) 2 0) 3 1) 4 1) 5 1) 6 2) 7 2) 8 2) 9 3) 10 3) 11 3) 12 4) 13 5) 14 6) = fw_FR1 := by decide +kernel
theorem fw_k_tt1 : (fw_s (fw_s (fw_s (fw_s (fw_s (fw_s (fw_s (fw_s (fw_s (fw_s (fw_s (fw_s (fw_s (fw_s (fw_s 0 0 1) 1 2) 2 3) 3 4) 4 5) 5 6) 6 4) 7 5) 8 6) 9 4) 10 5) 11 6) 12 7) 13 7) 14 7) = fw_TT1 := by decide +kernel
theorem fw_k_pr1 : (fw_on (fw_on (fw_on (fw_on (fw_on (fw_on (fw_on (fw_on (fw_on (fw_on (fw_on (fw_on (fw_on (fw_on (fw_on 0 0) 1) 2) 3) 4) 5) 6) 7) 8) 9) 10) 11) 12) 13) 14) = fw_PR1 := by decide +kernel
theorem fw_v_g11_0 : fw_ac (fun a c => Nat.beq (fw_g (fw_RM1 a 0 c) 1) a) = true := by decide +kernel
theorem fw_v_g11_1 : fw_ac (fun a c => Nat.beq (fw_g (fw_RM1 a 1 c) 1) a) = true := by decide +kernel
theorem fw_v_g11_2 : fw_ac (fun a c => Nat.beq (fw_g (fw_RM1 a 2 c) 1) a) = true := by decide +kernel
theorem fw_v_g11_3 : fw_ac (fun a c => Nat.beq (fw_g (fw_RM1 a 3 c) 1) a) = true := by decide +kernel
theorem fw_k_g11 {a b c : Nat} (ha : a < 10) (hb : b < 4) (hc : c < 10) : Nat.beq (fw_g (fw_RM1 a b c) 1) a = true := fw_acB (F := fun a b c => Nat.beq (fw_g (fw_RM1 a b c) 1) a) fw_v_g11_0 fw_v_g11_1 fw_v_g11_2 fw_v_g11_3 ha hb hc
theorem fw_v_rm3_0 : fw_ac (fun a c => Nat.beq (fw_s (fw_s (fw_s (fw_s (fw_s (fw_s (fw_RM1 a 0 c) 1 10) 15 11) 16 12) 17 13) 18 14) 19 15) (fw_RM3 a 0 c)) = true := by decide +kernel
theorem fw_v_rm3_1 : fw_ac (fun a c => Nat.beq (fw_s (fw_s (fw_s (fw_s (fw_s (fw_s (fw_RM1 a 1 c) 1 10) 15 11) 16 12) 17 13) 18 14) 19 15) (fw_RM3 a 1 c)) = true := by decide +kernel
theorem fw_v_rm3_2 : fw_ac (fun a c => Nat.beq (fw_s (fw_s (fw_s (fw_s (fw_s (fw_s (fw_RM1 a 2 c) 1 10) 15 11) 16 12) 17 13) 18 14) 19 15) (fw_RM3 a 2 c)) = true := by decide +kernel
theorem fw_v_rm3_3 : fw_ac (fun a c => Nat.beq (fw_s (fw_s (fw_s (fw_s (fw_s (fw_s (fw_RM1 a 3 c) 1 10) 15 11) 16 12) 17 13) 18 14) 19 15) (fw_RM3 a 3 c)) = true := by decide +kernel
theorem fw_k_rm3 {a b c : Nat} (ha : a < 10) (hb : b < 4) (hc : c < 10) : Nat.beq (fw_s (fw_s (fw_s (fw_s (fw_s (fw_s (fw_RM1 a b c) 1 10) 15 11) 16 12) 17 13) 18 14) 19 15) (fw_RM3 a b c) = true := fw_acB (F := fun a b c => Nat.beq (fw_s (fw_s (fw_s (fw_s (fw_s (fw_s (fw_RM1 a b c) 1 10) 15 11) 16 12) 17 13) 18 14) 19 15) (fw_RM3 a b c)) fw_v_rm3_0 fw_v_rm3_1 fw_v_rm3_2 fw_v_rm3_3 ha hb hc
theorem fw_k_fr3 : (fw_s (fw_s (fw_s (fw_s (fw_s (fw_s fw_FR1 1 0) 15 0) 16 0) 17 0) 18 0) 19 0) = fw_FR3 := by decide +kernel
theorem fw_k_tt3 : (fw_s (fw_s (fw_s (fw_s (fw_s (fw_s fw_TT1 1 7) 15 7) 16 7) 17 7) 18 7) 19 7) = fw_TT3 := by decide +kernel
theorem fw_k_pr3 : (fw_on (fw_on (fw_on (fw_on (fw_on (fw_on fw_PR2 1) 15) 16) 17) 18) 19) = fw_PR3 := by decide +kernel
theorem fw_v_g31_0 : fw_ac (fun a c => Nat.beq (fw_g (fw_RM3 a 0 c) 1) 10) = true := by decide +kernel
theorem fw_v_g31_1 : fw_ac (fun a c => Nat.beq (fw_g (fw_RM3 a 1 c) 1) 10) = true := by decide +kernel
theorem fw_v_g31_2 : fw_ac (fun a c => Nat.beq (fw_g (fw_RM3 a 2 c) 1) 10) = true := by decide +kernel
theorem fw_v_g31_3 : fw_ac (fun a c => Nat.beq (fw_g (fw_RM3 a 3 c) 1) 10) = true := by decide +kernel
theorem fw_k_g31 {a b c : Nat} (ha : a < 10) (hb : b < 4) (hc : c < 10) : Nat.beq (fw_g (fw_RM3 a b c) 1) 10 = true := fw_acB (F := fun a b c => Nat.beq (fw_g (fw_RM3 a b c) 1) 10) fw_v_g31_0 fw_v_g31_1 fw_v_g31_2 fw_v_g31_3 ha hb hc
theorem fw_v_rm4_0 : fw_ac (fun a c => Nat.beq (fw_s (fw_RM3 a 0 c) 1 0) (fw_RM4 a 0 c)) = true := by decide +kernel
theorem fw_v_rm4_1 : fw_ac (fun a c => Nat.beq (fw_s (fw_RM3 a 1 c) 1 0) (fw_RM4 a 1 c)) = true := by decide +kernel
theorem fw_v_rm4_2 : fw_ac (fun a c => Nat.beq (fw_s (fw_RM3 a 2 c) 1 0) (fw_RM4 a 2 c)) = true := by decide +kernel
theorem fw_v_rm4_3 : fw_ac (fun a c => Nat.beq (fw_s (fw_RM3 a 3 c) 1 0) (fw_RM4 a 3 c)) = true := by decide +kernel
theorem fw_k_rm4 {a b c : Nat} (ha : a < 10) (hb : b < 4) (hc : c < 10) : Nat.beq (fw_s (fw_RM3 a b c) 1 0) (fw_RM4 a b c) = true := fw_acB (F := fun a b c => Nat.beq (fw_s (fw_RM3 a b c) 1 0) (fw_RM4 a b c)) fw_v_rm4_0 fw_v_rm4_1 fw_v_rm4_2 fw_v_rm4_3 ha hb hc
end
section
/-! the law (written by mklaw.py) -/
theorem fw_mn1 {x y : Nat} (h : x ≤ y) : fw_mn x y = x := by unfold fw_mn; rw [Nat.ble_eq_true_of_le h]; rfl
theorem fw_mn2 {x y : Nat} (h : y < x) : fw_mn x y = y := by
  unfold fw_mn
  have : Nat.ble x y = false := by
    cases e : Nat.ble x y with
    | false => rfl
    | true => exact absurd (fw_le e) (by omega)
  rw [this]
  rfl
theorem fw_mn_lt {x y n : Nat} (hx : x < n) (hy : y < n) : fw_mn x y < n := by
  by_cases h : x ≤ y
  · rw [fw_mn1 h]; exact hx
  · rw [fw_mn2 (by omega)]; exact hy
theorem fw_ifn0 {c x y : Nat} (h : c = 0) : fw_ifn (Nat.beq c 0) x y = x := by rw [fw_beqT h]; rfl
theorem fw_ifn1 {c x y : Nat} (h : c ≠ 0) : fw_ifn (Nat.beq c 0) x y = y := by rw [fw_beqF h]; rfl
theorem fw_ifn_lt {c : Bool} {x y n : Nat} (hx : x < n) (hy : y < n) : fw_ifn c x y < n := by
  cases c
  · exact hy
  · exact hx
theorem fw_brmn {P : Int32 → Prop} {x y : Nat} (hx : x < 65536) (hy : y < 65536) (h : P (nI (fw_mn x y))) : (nI x ≤ nI y → P (nI x)) ∧ (¬ nI x ≤ nI y → P (nI y)) := by
  by_cases g : x ≤ y
  · rw [fw_mn1 g] at h
    exact br_t (nI_le g (by omega)) h
  · rw [fw_mn2 (by omega)] at h
    exact br_f (nI_ge (by omega) (by omega)) h
theorem fw_breq {P : Int32 → Prop} {x y : Nat} (hx : x < 65536) (hy : y < 65536) (h : P (nI (fw_eqn x y))) : (nI x = nI y → P 1) ∧ (¬ nI x = nI y → P 0) := by
  unfold fw_eqn at h
  by_cases g : x = y
  · rw [fw_beqT g] at h
    exact br_t (by rw [g]) h
  · rw [fw_beqF g] at h
    exact br_f (by rw [nI_eq (by omega) (by omega)]; exact g) h
theorem fw_brz {P : Int32 → Prop} {f x y : Nat} {x0 y0 : Int32} (ex : x0 = nI x) (ey : y0 = nI y) (hf : f < 65536) (h : P (nI (fw_ifn (Nat.beq f 0) x y))) : (nI f = 0 → P x0) ∧ (¬ nI f = 0 → P y0) := by
  subst ex
  subst ey
  by_cases g : f = 0
  · rw [fw_ifn0 g] at h
    exact br_t (by rw [g]; rfl) h
  · rw [fw_ifn1 g] at h
    exact br_f (nI_ne0 (by omega) (by omega)) h
theorem fw_eqn_lt (x y : Nat) : fw_eqn x y < 2 := fw_ifn_lt (by omega) (by omega)
theorem fw_fA_lt (a b c : Nat) : fw_fA a b c < 2 := fw_ifn_lt (by omega) (fw_ifn_lt (by omega) (fw_ifn_lt (by omega) (by omega)))
theorem fw_val_lt {a b c : Nat} (ha : a < 10) (hb : b < 4) (hc : c < 10) : fw_val a b c < 100 := fw_mn_lt (show 3 * c < 100 by omega) (fw_mn_lt (show 9 * b < 100 by omega) (show 3 * a < 100 by omega))
theorem fw_now_lt {a b c : Nat} (ha : a < 10) (hb : b < 4) (hc : c < 10) : fw_now a b c < 100 := fw_mn_lt (show 3 * c < 100 by omega) (fw_mn_lt (show 6 * b < 100 by omega) (show 2 * a < 100 by omega))
theorem fw_Ly10 {a b c : Nat} (ha : a < 10) (hb : b < 4) (hc : c < 10) : fw_Lay fw_PR1 fw_FR1 fw_TT1 (fw_RM1 a b c) 0 1 0 7 fw_adj1 fw_TO1 fw_NX1 fw_FS1 fw_E1 (fw_LF10 a b c) := ⟨fw_k_lay10 ha hb hc, fw_nc1⟩
theorem fw_Ly11 {a b c : Nat} (ha : a < 10) (hb : b < 4) (hc : c < 10) : fw_Lay fw_PR1 fw_FR1 fw_TT1 (fw_RM1 a b c) 1 1 0 7 fw_adj1 fw_TO1 fw_NX1 fw_FS1 fw_E1 (fw_LF11 a b c) := ⟨fw_k_lay11 ha hb hc, fw_nc1⟩
theorem fw_Ly12 {a b c : Nat} (ha : a < 10) (hb : b < 4) (hc : c < 10) : fw_Lay fw_PR1 fw_FR1 fw_TT1 (fw_RM1 a b c) 2 1 0 7 fw_adjs1 fw_TOs1 fw_NXs1 fw_FSs1 fw_Es1 (fw_LF12 a b c) := ⟨fw_k_lay12 ha hb hc, fw_ncs1⟩
theorem fw_Ly20 {a b c : Nat} (ha : a < 10) (hb : b < 4) (hc : c < 10) : fw_Lay fw_PR2 fw_FR2 fw_TT2 (fw_RM2 a b c) 0 1 0 7 fw_adj2 fw_TO2 fw_NX2 fw_FS2 fw_E2 (fw_LF20 a b c) := ⟨fw_k_lay20 ha hb hc, fw_nc2⟩
theorem fw_Ly21 {a b c : Nat} (ha : a < 10) (hb : b < 4) (hc : c < 10) : fw_Lay fw_PR2 fw_FR2 fw_TT2 (fw_RM2 a b c) 1 1 0 7 fw_adj2 fw_TO2 fw_NX2 fw_FS2 fw_E2 (fw_LF21 a b c) := ⟨fw_k_lay21 ha hb hc, fw_nc2⟩
theorem fw_Ly22 {a b c : Nat} (ha : a < 10) (hb : b < 4) (hc : c < 10) : fw_Lay fw_PR2 fw_FR2 fw_TT2 (fw_RM2 a b c) 2 1 0 7 fw_adjs2 fw_TOs2 fw_NXs2 fw_FSs2 fw_Es2 (fw_LF22 a b c) := ⟨fw_k_lay22 ha hb hc, fw_ncs2⟩
theorem fw_Ly30 {a b c : Nat} (ha : a < 10) (hb : b < 4) (hc : c < 10) : fw_Lay fw_PR3 fw_FR3 fw_TT3 (fw_RM3 a b c) 0 1 0 7 fw_adj3 fw_TO3 fw_NX3 fw_FS3 fw_E3 (fw_LF30 a b c) := ⟨fw_k_lay30 ha hb hc, fw_nc3⟩
theorem fw_Ly32 {a b c : Nat} (ha : a < 10) (hb : b < 4) (hc : c < 10) : fw_Lay fw_PR3 fw_FR3 fw_TT3 (fw_RM3 a b c) 2 1 0 7 fw_adjs3 fw_TOs3 fw_NXs3 fw_FSs3 fw_Es3 (fw_LF32 a b c) := ⟨fw_k_lay32 ha hb hc, fw_ncs3⟩
theorem fw_Ly33 {a b c : Nat} (ha : a < 10) (hb : b < 4) (hc : c < 10) : fw_Lay fw_PR3 fw_FR3 fw_TT3 (fw_RM3 a b c) 3 0 0 7 fw_adjs3 fw_TOs3 fw_NXs3 fw_FSs3 fw_Es3 (fw_LF33 a b c) := ⟨fw_k_lay33 ha hb hc, fw_ncs3⟩
theorem fw_Ly40 {a b c : Nat} (ha : a < 10) (hb : b < 4) (hc : c < 10) : fw_Lay fw_PR4 fw_FR4 fw_TT4 (fw_RM4 a b c) 0 1 0 7 fw_adj3 fw_TO3 fw_NX3 fw_FS3 fw_E3 (fw_LF40 a b c) := ⟨fw_k_lay40 ha hb hc, fw_nc3⟩
theorem fw_kp {a b c : Nat} (ha : a < 10) (hb : b < 4) (hc : c < 10) {g : Nat} (hg : g < 7) : fw_solve fw_adj1 fw_TO1 fw_NX1 fw_FS1 fw_E1 0 7 g (fw_LF10 a b c) (fun _ n => Nat.beq n (fw_val a b c)) = true := by
  have e : g = 0 ∨ g = 1 ∨ g = 2 ∨ g = 3 ∨ g = 4 ∨ g = 5 ∨ g = 6 := by omega
  rcases e with e | e | e | e | e | e | e <;> subst e
  · exact fw_k_p0 ha hb hc
  · exact fw_k_p1 ha hb hc
  · exact fw_k_p2 ha hb hc
  · exact fw_k_p3 ha hb hc
  · exact fw_k_p4 ha hb hc
  · exact fw_k_p5 ha hb hc
  · exact fw_k_p6 ha hb hc
theorem fw_kr {a b c : Nat} (ha : a < 10) (hb : b < 4) (hc : c < 10) {g : Nat} (hg : g < 7) : fw_solve fw_adj1 fw_TO1 fw_NX1 fw_FS1 fw_E1 7 0 g (fw_LF10 a b c) (fun _ n => Nat.beq n 0) = true := by
  have e : g = 0 ∨ g = 1 ∨ g = 2 ∨ g = 3 ∨ g = 4 ∨ g = 5 ∨ g = 6 := by omega
  rcases e with e | e | e | e | e | e | e <;> subst e
  · exact fw_k_r0 ha hb hc
  · exact fw_k_r1 ha hb hc
  · exact fw_k_r2 ha hb hc
  · exact fw_k_r3 ha hb hc
  · exact fw_k_r4 ha hb hc
  · exact fw_k_r5 ha hb hc
  · exact fw_k_r6 ha hb hc
theorem fw_kthr {a b c m : Nat} (ha : a < 10) (hb : b < 4) (hc : c < 10) (hm : m < 6) : fw_solve fw_adjs1 fw_TOs1 fw_NXs1 fw_FSs1 fw_Es1 0 7 3 (fw_LF13 a b c m) (fun _ n => Nat.beq n (fw_less a b c m)) = true := by
  have e : m = 0 ∨ m = 1 ∨ m = 2 ∨ m = 3 ∨ m = 4 ∨ m = 5 := by omega
  rcases e with e | e | e | e | e | e <;> subst e
  · exact fw_k_thr_0 ha hb hc
  · exact fw_k_thr_1 ha hb hc
  · exact fw_k_thr_2 ha hb hc
  · exact fw_k_thr_3 ha hb hc
  · exact fw_k_thr_4 ha hb hc
  · exact fw_k_thr_5 ha hb hc
theorem fw_Ly13 {a b c m : Nat} (ha : a < 10) (hb : b < 4) (hc : c < 10) (hm : m < 6) : fw_Lay fw_PR1 fw_FR1 fw_TT1 (fw_RM1 a b c) 3 m 0 7 fw_adjs1 fw_TOs1 fw_NXs1 fw_FSs1 fw_Es1 (fw_LF13 a b c m) := by
  refine ⟨?_, fw_ncs1⟩
  have e : m = 0 ∨ m = 1 ∨ m = 2 ∨ m = 3 ∨ m = 4 ∨ m = 5 := by omega
  rcases e with e | e | e | e | e | e <;> subst e
  · exact fw_k_lay13_0 ha hb hc
  · exact fw_k_lay13_1 ha hb hc
  · exact fw_k_lay13_2 ha hb hc
  · exact fw_k_lay13_3 ha hb hc
  · exact fw_k_lay13_4 ha hb hc
  · exact fw_k_lay13_5 ha hb hc
theorem fw_kw {a b c : Nat} (ha : a < 10) (hb : b < 4) (hc : c < 10) (s t : Nat) (hs : s < 8) (ht : t < 8) (hst : t ≠ s) : fw_solve fw_adj1 fw_TO1 fw_NX1 fw_FS1 fw_E1 s t ((s + t) % 7) (fw_LF10 a b c) (fun _ n => fw_if (Nat.beq t 0) (Nat.beq n 0) (Nat.ble n 1048576)) = true := by
  have e : s = 0 ∨ s = 1 ∨ s = 2 ∨ s = 3 ∨ s = 4 ∨ s = 5 ∨ s = 6 ∨ s = 7 := by omega
  rcases e with e | e | e | e | e | e | e | e <;> subst e
  · rcases fw_ifE (fw_allE (fw_k_w0 ha hb hc) t ht) with ⟨z, _⟩ | ⟨_, h⟩
    · exact absurd (fw_eq z) hst
    · exact h
  · rcases fw_ifE (fw_allE (fw_k_w1 ha hb hc) t ht) with ⟨z, _⟩ | ⟨_, h⟩
    · exact absurd (fw_eq z) hst
    · exact h
  · rcases fw_ifE (fw_allE (fw_k_w2 ha hb hc) t ht) with ⟨z, _⟩ | ⟨_, h⟩
    · exact absurd (fw_eq z) hst
    · exact h
  · rcases fw_ifE (fw_allE (fw_k_w3 ha hb hc) t ht) with ⟨z, _⟩ | ⟨_, h⟩
    · exact absurd (fw_eq z) hst
    · exact h
  · rcases fw_ifE (fw_allE (fw_k_w4 ha hb hc) t ht) with ⟨z, _⟩ | ⟨_, h⟩
    · exact absurd (fw_eq z) hst
    · exact h
  · rcases fw_ifE (fw_allE (fw_k_w5 ha hb hc) t ht) with ⟨z, _⟩ | ⟨_, h⟩
    · exact absurd (fw_eq z) hst
    · exact h
  · rcases fw_ifE (fw_allE (fw_k_w6 ha hb hc) t ht) with ⟨z, _⟩ | ⟨_, h⟩
    · exact absurd (fw_eq z) hst
    · exact h
  · rcases fw_ifE (fw_allE (fw_k_w7 ha hb hc) t ht) with ⟨z, _⟩ | ⟨_, h⟩
    · exact absurd (fw_eq z) hst
    · exact h
section
variable {pr so si ed fl qf qs oc : Int32} {a1 a2 a3 a4 a5 a6 a7 a8 a9 a10 a11 a12 a13 a14 a15 a16 a17 a18 a19 : Nat → Int32}
theorem fw_L1051 {post : Int32 → St0 → Prop} {mc ms kc ks : Nat} (hpost : post 1 ()) {a b c : Nat} (ha : a < 10) (hb : b < 4) (hc : c < 10) (hA : fw_Arcs fw_PR4 fw_FR4 fw_TT4 (fw_RM4 a b c) pr a1 a2 a3) : wL_lawOf_1051 post mc ms 1 kc ks pr so si ed fl qf qs oc a1 a2 a3 a4 a5 a6 a7 a8 a9 a10 a11 a12 a13 a14 a15 a16 a17 a18 a19 :=
  br_f (by decide) (fw_noAdd00 (br_t rfl (fw_noAdd08 (br_t rfl (fw_noChange20 (br_t rfl (fw_noChange100 hA.2.1 hA.1 (by decide +kernel) (br_t rfl (fw_noRemove (br_t rfl (fw_noValue (br_t rfl (fw_noAgree (br_t rfl (fw_noLeast (br_t rfl (fw_noThrottled (br_t rfl hpost))))))))))))))))))
theorem fw_L1000 {post : Int32 → St0 → Prop} {mc ms kc ks : Nat} (hpost : post 1 ()) {a b c : Nat} (ha : a < 10) (hb : b < 4) (hc : c < 10) (hA : fw_Arcs fw_PR3 fw_FR3 fw_TT3 (fw_RM3 a b c) pr a1 a2 a3) {z0 z1 : Int32} (hz : z1 = z0) : wL_lawOf_1000 post mc ms (nI (fw_now a b c)) z0 z1 kc ks pr so si ed fl qf qs oc a1 a2 a3 a4 a5 a6 a7 a8 a9 a10 a11 a12 a13 a14 a15 a16 a17 a18 a19 := by
  refine br_t hz (fw_throttled_c (s := 0) (t := 7) (much := 0) (v := 75) rfl rfl rfl hA (by omega) (by omega) (by omega) (by omega) (fw_Ly33 ha hb hc) (fw_k_thr0 ha hb hc) (fun so' si' ed' fl' qf' qs' oc' a4' a5' a6' a7' a8' a9' a10' a11' a12' a13' a14' a15' a16' a17' a18' a19' => br_t rfl (fw_change_c (k := 1) (r := 0) rfl rfl hA (by omega) (by decide +kernel) (by omega) (fun b3 hA4 => br_t ?_ ?_))))
  · rw [show fw_g (fw_RM3 a b c) 1 = 10 from fw_eq (fw_k_g31 ha hb hc)]
    rfl
  · rw [show fw_s (fw_RM3 a b c) 1 0 = fw_RM4 a b c from fw_eq (fw_k_rm4 ha hb hc)] at hA4
    exact fw_value_c (s := 0) (t := 7) (g := 2) rfl rfl rfl hA4 (by omega) (by omega) (by omega) (by omega) (fw_Ly40 ha hb hc) (fw_k_v2 ha hb hc) (fun so2 si2 ed2 fl2 qf2 qs2 oc2 b4 b5 b6 b7 b8 b9 b10 b11 b12 b13 b14 b15 b16 b17 b18 b19 => br_t (nI_add _ 65).symm (fw_L1051 hpost ha hb hc hA4))
theorem fw_S907 {post : Int32 → St0 → Prop} {mc ms kc ks : Nat} (hpost : post 1 ()) {PR FR TT RM j k q n : Nat} {x20 x27 : Int32} (hA : fw_Arcs PR FR TT RM pr a1 a2 a3) (hk : k < 7) (hj : j < 20) (hlt : ∀ i, i < j → fw_b PR i ≠ 0) (h0 : fw_b PR j = 0)
    (next : ∀ (pr' : Int32) (a1' a2' a3' : Nat → Int32), fw_Arcs (fw_on PR j) (fw_s FR j 0) (fw_s TT j 7) (fw_s RM j (10 + k)) pr' a1' a2' a3' → wL_lawOf_907 post mc ms 1 x20 x27 kc ks n (nI (q + 1)) (nI (k + 1)) pr' so si ed fl qf qs oc a1' a2' a3' a4 a5 a6 a7 a8 a9 a10 a11 a12 a13 a14 a15 a16 a17 a18 a19) :
    wL_lawOf_907 post mc ms 1 x20 x27 kc ks (n + 1) (nI q) (nI k) pr so si ed fl qf qs oc a1 a2 a3 a4 a5 a6 a7 a8 a9 a10 a11 a12 a13 a14 a15 a16 a17 a18 a19 :=
  br_f (nI_ge (b := 7) hk (by decide)) (fw_add_c (a := 0) (b := 7) (r := 10 + k) rfl rfl (nI_add 10 k) hA (by omega) (by omega) (by omega) (by omega) hj hlt h0 (fun pr' b1 b2 b3 hA' => br_f (nI_pos (by omega)) (nm_r (nI_1 q) (nm_r (nI_1 k) (next _ _ _ _ hA')))))
theorem fw_T907 {post : Int32 → St0 → Prop} {mc ms kc ks : Nat} (hpost : post 1 ()) {a b c : Nat} (ha : a < 10) (hb : b < 4) (hc : c < 10) (hA : fw_Arcs fw_PR3 fw_FR3 fw_TT3 (fw_RM3 a b c) pr a1 a2 a3) {n : Nat} : wL_lawOf_907 post mc ms 1 (nI (fw_fA a b c)) (nI (fw_now a b c)) kc ks (n + 2) (nI 6) (nI 6) pr so si ed fl qf qs oc a1 a2 a3 a4 a5 a6 a7 a8 a9 a10 a11 a12 a13 a14 a15 a16 a17 a18 a19 := by
  have hlA := fw_fA_lt a b c
  have hnow := fw_now_lt ha hb hc
  refine br_f (by decide) (fw_addfull_c (a := 0) (b := 7) (r := 16) rfl rfl (by decide) hA (by omega) (by omega) (by omega) (by omega) (by decide +kernel) (br_t (by decide) (nm_r (nI_1 6) ?_)))
  refine br_t (by decide) (br_f (by decide) (br_t rfl ?_))
  refine fw_value_c (s := 0) (t := 7) (g := 5) rfl rfl rfl hA (by omega) (by omega) (by omega) (by omega) (fw_Ly30 ha hb hc) (fw_k_v5 ha hb hc) (fun so' si' ed' fl' qf' qs' oc' a4' a5' a6' a7' a8' a9' a10' a11' a12' a13' a14' a15' a16' a17' a18' a19' => br_t (nI_add _ 75).symm ?_)
  refine fw_separate_c (s := 0) (t := 7) rfl rfl hA (by omega) (by omega) (by omega) (fw_Ly32 ha hb hc) (fw_k_sep3 ha hb hc) (fun so2 si2 ed2 fl2 qf2 qs2 oc2 b4 b5 b6 b7 b8 b9 b10 b11 b12 b13 b14 b15 b16 b17 b18 b19 => ?_)
  by_cases e : fw_fA a b c = 0
  · exact br_t (by rw [e]; rfl) (fw_L1000 hpost ha hb hc hA (by unfold fw_all3; rw [fw_ifn0 e]; rfl))
  · exact br_f (nI_ne0 (by omega) (by omega)) (fw_L1000 hpost ha hb hc hA (by unfold fw_all3; rw [fw_ifn1 e]; rfl))
theorem fw_L907 {post : Int32 → St0 → Prop} {mc ms kc ks : Nat} (hpost : post 1 ()) {a b c : Nat} (ha : a < 10) (hb : b < 4) (hc : c < 10) (hA : fw_Arcs fw_PR2 fw_FR2 fw_TT2 (fw_RM2 a b c) pr a1 a2 a3) : wL_lawOf_907 post mc ms 1 (nI (fw_fA a b c)) (nI (fw_now a b c)) kc ks 8 0 0 pr so si ed fl qf qs oc a1 a2 a3 a4 a5 a6 a7 a8 a9 a10 a11 a12 a13 a14 a15 a16 a17 a18 a19 := by
  refine fw_S907 (j := 1) (k := 0) (q := 0) hpost hA (by omega) (by omega) (by decide +kernel) (by decide +kernel) (fun p0 u0 v0 w0 h0 => ?_)
  refine fw_S907 (j := 15) (k := 1) (q := 1) hpost h0 (by omega) (by omega) (by decide +kernel) (by decide +kernel) (fun p1 u1 v1 w1 h1 => ?_)
  refine fw_S907 (j := 16) (k := 2) (q := 2) hpost h1 (by omega) (by omega) (by decide +kernel) (by decide +kernel) (fun p2 u2 v2 w2 h2 => ?_)
  refine fw_S907 (j := 17) (k := 3) (q := 3) hpost h2 (by omega) (by omega) (by decide +kernel) (by decide +kernel) (fun p3 u3 v3 w3 h3 => ?_)
  refine fw_S907 (j := 18) (k := 4) (q := 4) hpost h3 (by omega) (by omega) (by decide +kernel) (by decide +kernel) (fun p4 u4 v4 w4 h4 => ?_)
  refine fw_S907 (j := 19) (k := 5) (q := 5) hpost h4 (by omega) (by omega) (by decide +kernel) (by decide +kernel) (fun p5 u5 v5 w5 h5 => ?_)
  have h : fw_Arcs fw_PR3 fw_FR3 fw_TT3 (fw_RM3 a b c) p5 u5 v5 w5 := by
    have e := fw_eq (fw_k_rm3 ha hb hc)
    rw [← fw_k_pr3, ← fw_k_fr3, ← fw_k_tt3, ← e]
    exact h5
  exact fw_T907 hpost ha hb hc h
theorem fw_L891 {post : Int32 → St0 → Prop} {mc ms kc ks : Nat} (hpost : post 1 ()) {a b c : Nat} (ha : a < 10) (hb : b < 4) (hc : c < 10) (hA : fw_Arcs fw_PR2 fw_FR2 fw_TT2 (fw_RM2 a b c) pr a1 a2 a3) {z0 z1 : Int32} (hz : z1 = z0) : wL_lawOf_891 post mc ms (nI (fw_fA a b c)) (nI (fw_now a b c)) z0 z1 kc ks pr so si ed fl qf qs oc a1 a2 a3 a4 a5 a6 a7 a8 a9 a10 a11 a12 a13 a14 a15 a16 a17 a18 a19 := br_t hz ⟨8, fw_L907 hpost ha hb hc hA⟩
theorem fw_L870 {post : Int32 → St0 → Prop} {mc ms kc ks : Nat} (hpost : post 1 ()) {a b c : Nat} (ha : a < 10) (hb : b < 4) (hc : c < 10) (hA : fw_Arcs fw_PR2 fw_FR2 fw_TT2 (fw_RM2 a b c) pr a1 a2 a3) {z0 z1 : Int32} (hz : z1 = z0) : wL_lawOf_870 post mc ms (nI (fw_fA a b c)) (nI (fw_now a b c)) z0 z1 kc ks pr so si ed fl qf qs oc a1 a2 a3 a4 a5 a6 a7 a8 a9 a10 a11 a12 a13 a14 a15 a16 a17 a18 a19 := by
  have hlA := fw_fA_lt a b c
  refine br_t hz (fw_apart_c (s := 0) (t := 7) rfl rfl hA (by omega) (by omega) (by omega) (fw_Ly21 ha hb hc) (fw_k_apart2 ha hb hc) (fun so2 si2 ed2 fl2 qf2 qs2 oc2 b4 b5 b6 b7 b8 b9 b10 b11 b12 b13 b14 b15 b16 b17 b18 b19 => ?_))
  by_cases e : fw_fA a b c = 0
  · exact br_t (by rw [e]; rfl) (fw_L891 hpost ha hb hc hA (by unfold fw_all3; rw [fw_ifn0 e]; rfl))
  · exact br_f (nI_ne0 (by omega) (by omega)) (fw_L891 hpost ha hb hc hA (by unfold fw_all3; rw [fw_ifn1 e]; rfl))
theorem fw_L813 {post : Int32 → St0 → Prop} {mc ms kc ks : Nat} (hpost : post 1 ()) {a b c : Nat} (ha : a < 10) (hb : b < 4) (hc : c < 10) (hA : fw_Arcs fw_PR2 fw_FR2 fw_TT2 (fw_RM2 a b c) pr a1 a2 a3) {x25 : Int32} (h25 : x25 = (nI a)) : wL_lawOf_813 post mc ms (nI a) 1 (nI (fw_fA a b c)) x25 (nI (fw_now a b c)) kc ks pr so si ed fl qf qs oc a1 a2 a3 a4 a5 a6 a7 a8 a9 a10 a11 a12 a13 a14 a15 a16 a17 a18 a19 := by
  have hlA := fw_fA_lt a b c
  refine br_f (by decide) (br_t h25 (br_t (by rw [hA.2.1]; rfl) (fw_value_c (s := 0) (t := 7) (g := 3) rfl rfl rfl hA (by omega) (by omega) (by omega) (by omega) (fw_Ly20 ha hb hc) (fw_k_v3 ha hb hc) (fun so' si' ed' fl' qf' qs' oc' a4' a5' a6' a7' a8' a9' a10' a11' a12' a13' a14' a15' a16' a17' a18' a19' => br_t rfl (fw_separate_c (s := 0) (t := 7) rfl rfl hA (by omega) (by omega) (by omega) (fw_Ly22 ha hb hc) (fw_k_sep2 ha hb hc) (fun so2 si2 ed2 fl2 qf2 qs2 oc2 b4 b5 b6 b7 b8 b9 b10 b11 b12 b13 b14 b15 b16 b17 b18 b19 => ?_))))))
  by_cases e : fw_fA a b c = 0
  · exact br_t (by rw [e]; rfl) (fw_L870 hpost ha hb hc hA (by unfold fw_all3; rw [fw_ifn0 e]; rfl))
  · exact br_f (nI_ne0 (by omega) (by omega)) (fw_L870 hpost ha hb hc hA (by unfold fw_all3; rw [fw_ifn1 e]; rfl))
theorem fw_L797 {post : Int32 → St0 → Prop} {mc ms kc ks : Nat} (hpost : post 1 ()) {a b c : Nat} (ha : a < 10) (hb : b < 4) (hc : c < 10) (hA : fw_Arcs fw_PR2 fw_FR2 fw_TT2 (fw_RM2 a b c) pr a1 a2 a3) {x25 : Int32} (h25 : x25 = (nI a)) : wL_lawOf_797 post mc ms (nI a) 1 (nI (Nat.mul 3 c)) (nI (fw_fA a b c)) x25 (nI (fw_mn (Nat.mul 6 b) (Nat.mul 2 a))) kc ks pr so si ed fl qf qs oc a1 a2 a3 a4 a5 a6 a7 a8 a9 a10 a11 a12 a13 a14 a15 a16 a17 a18 a19 :=
  fw_brmn (P := fun z => wL_lawOf_813 post mc ms (nI a) 1 (nI (fw_fA a b c)) x25 z kc ks pr so si ed fl qf qs oc a1 a2 a3 a4 a5 a6 a7 a8 a9 a10 a11 a12 a13 a14 a15 a16 a17 a18 a19) (show 3 * c < 65536 by omega) (fw_mn_lt (show 6 * b < 65536 by omega) (show 2 * a < 65536 by omega)) (fw_L813 hpost ha hb hc hA h25)
theorem fw_L763 {post : Int32 → St0 → Prop} {mc ms kc ks : Nat} (hpost : post 1 ()) {a b c : Nat} (ha : a < 10) (hb : b < 4) (hc : c < 10) (hA : fw_Arcs fw_PR1 fw_FR1 fw_TT1 (fw_RM1 a b c) pr a1 a2 a3) : wL_lawOf_763 post mc ms (nI a) (nI b) (nI (Nat.mul 3 c)) (nI (fw_fA a b c)) 1 kc ks pr so si ed fl qf qs oc a1 a2 a3 a4 a5 a6 a7 a8 a9 a10 a11 a12 a13 a14 a15 a16 a17 a18 a19 := by
  refine fw_remove_c (k := 1) (PR' := fw_PR2) rfl hA (by omega) (by decide +kernel) (by decide +kernel) (by decide) (by decide +kernel) (fun pr2 hA2 hpr2 => ?_)
  have e6 : (6 : Int32) * nI b = nI (Nat.mul 6 b) := pk_mul 6 b
  have e2 : (2 : Int32) * nI a = nI (Nat.mul 2 a) := pk_mul 2 a
  have e : nI (fw_g (fw_RM1 a b c) 1) = nI a := by rw [fw_eq (fw_k_g11 ha hb hc)]
  show ((6 : Int32) * nI b ≤ (2 : Int32) * nI a → wL_lawOf_797 post mc ms (nI a) 1 (nI (Nat.mul 3 c)) (nI (fw_fA a b c)) (nI (fw_g (fw_RM1 a b c) 1)) ((6 : Int32) * nI b) kc ks pr2 so si ed fl qf qs oc a1 a2 a3 a4 a5 a6 a7 a8 a9 a10 a11 a12 a13 a14 a15 a16 a17 a18 a19) ∧ (¬ (6 : Int32) * nI b ≤ (2 : Int32) * nI a → wL_lawOf_797 post mc ms (nI a) 1 (nI (Nat.mul 3 c)) (nI (fw_fA a b c)) (nI (fw_g (fw_RM1 a b c) 1)) ((2 : Int32) * nI a) kc ks pr2 so si ed fl qf qs oc a1 a2 a3 a4 a5 a6 a7 a8 a9 a10 a11 a12 a13 a14 a15 a16 a17 a18 a19)
  rw [e6, e2]
  exact fw_brmn (P := fun z => wL_lawOf_797 post mc ms (nI a) 1 (nI (Nat.mul 3 c)) (nI (fw_fA a b c)) (nI (fw_g (fw_RM1 a b c) 1)) z kc ks pr2 so si ed fl qf qs oc a1 a2 a3 a4 a5 a6 a7 a8 a9 a10 a11 a12 a13 a14 a15 a16 a17 a18 a19) (show 6 * b < 65536 by omega) (show 2 * a < 65536 by omega) (fw_L797 hpost ha hb hc hA2 e)
theorem fw_L732 {post : Int32 → St0 → Prop} {mc ms kc ks : Nat} (hpost : post 1 ()) {a b c m : Nat} (ha : a < 10) (hb : b < 4) (hc : c < 10) (hm : m < 6) (hA : fw_Arcs fw_PR1 fw_FR1 fw_TT1 (fw_RM1 a b c) pr a1 a2 a3) {z0 z1 : Int32} (hz : z1 = z0) : wL_lawOf_732 post mc ms (nI a) (nI b) (nI m) (nI (Nat.mul 3 c)) (nI (fw_fA a b c)) (nI (fw_less a b c m)) z0 z1 kc ks pr so si ed fl qf qs oc a1 a2 a3 a4 a5 a6 a7 a8 a9 a10 a11 a12 a13 a14 a15 a16 a17 a18 a19 :=
  br_t hz (fw_weakest_c hA (fun s t _ _ => fw_Lay_k (by decide) (fw_Ly10 ha hb hc) s t) (fun s t hs ht hst => fw_kw ha hb hc s t hs ht hst) _ _ _ _ _ _ _ _ _ _ _ _ _ _ _ _ _ _ _ _ _ _ _ (fun so' si' ed' fl' qf' qs' oc' a4' a5' a6' a7' a8' a9' a10' a11' a12' a13' a14' a15' a16' a17' a18' a19' => br_t rfl (fw_throttled_c (s := 0) (t := 7) (much := m) rfl rfl rfl hA (by omega) (by omega) (by omega) (by omega) (fw_Ly13 ha hb hc hm) (fw_kthr ha hb hc hm) (fun so2 si2 ed2 fl2 qf2 qs2 oc2 b4 b5 b6 b7 b8 b9 b10 b11 b12 b13 b14 b15 b16 b17 b18 b19 => br_t rfl (fw_L763 hpost ha hb hc hA)))))
theorem fw_L711 {post : Int32 → St0 → Prop} {mc ms kc ks : Nat} (hpost : post 1 ()) {a b c m : Nat} (ha : a < 10) (hb : b < 4) (hc : c < 10) (hm : m < 6) (hA : fw_Arcs fw_PR1 fw_FR1 fw_TT1 (fw_RM1 a b c) pr a1 a2 a3) {z0 z1 : Int32} (hz : z1 = z0) : wL_lawOf_711 post mc ms (nI a) (nI b) (nI m) (nI (Nat.mul 3 c)) (nI (fw_fA a b c)) (nI (fw_less a b c m)) z0 z1 kc ks pr so si ed fl qf qs oc a1 a2 a3 a4 a5 a6 a7 a8 a9 a10 a11 a12 a13 a14 a15 a16 a17 a18 a19 := by
  have hlA := fw_fA_lt a b c
  refine br_t hz (fw_fewest_c (s := 0) (t := 7) rfl rfl hA (by omega) (by omega) (by omega) (fw_Ly11 ha hb hc) (fw_k_few ha hb hc) (fun so2 si2 ed2 fl2 qf2 qs2 oc2 b4 b5 b6 b7 b8 b9 b10 b11 b12 b13 b14 b15 b16 b17 b18 b19 => ?_))
  by_cases e : fw_fA a b c = 0
  · exact br_t (by rw [e]; rfl) (fw_L732 hpost ha hb hc hm hA (by unfold fw_all3; rw [fw_ifn0 e]; rfl))
  · exact br_f (nI_ne0 (by omega) (by omega)) (fw_L732 hpost ha hb hc hm hA (by unfold fw_all3; rw [fw_ifn1 e]; rfl))
theorem fw_L690 {post : Int32 → St0 → Prop} {mc ms kc ks : Nat} (hpost : post 1 ()) {a b c m : Nat} (ha : a < 10) (hb : b < 4) (hc : c < 10) (hm : m < 6) (hA : fw_Arcs fw_PR1 fw_FR1 fw_TT1 (fw_RM1 a b c) pr a1 a2 a3) {z0 z1 : Int32} (hz : z1 = z0) : wL_lawOf_690 post mc ms (nI a) (nI b) (nI m) (nI (Nat.mul 3 c)) (nI (fw_fA a b c)) (nI (fw_less a b c m)) z0 z1 kc ks pr so si ed fl qf qs oc a1 a2 a3 a4 a5 a6 a7 a8 a9 a10 a11 a12 a13 a14 a15 a16 a17 a18 a19 := by
  have hlA := fw_fA_lt a b c
  refine br_t hz (fw_separate_c (s := 0) (t := 7) rfl rfl hA (by omega) (by omega) (by omega) (fw_Ly12 ha hb hc) (fw_k_sep ha hb hc) (fun so2 si2 ed2 fl2 qf2 qs2 oc2 b4 b5 b6 b7 b8 b9 b10 b11 b12 b13 b14 b15 b16 b17 b18 b19 => ?_))
  by_cases e : fw_fA a b c = 0
  · exact br_t (by rw [e]; rfl) (fw_L711 hpost ha hb hc hm hA (by unfold fw_all3; rw [fw_ifn0 e]; rfl))
  · exact br_f (nI_ne0 (by omega) (by omega)) (fw_L711 hpost ha hb hc hm hA (by unfold fw_all3; rw [fw_ifn1 e]; rfl))
theorem fw_L669 {post : Int32 → St0 → Prop} {mc ms kc ks : Nat} (hpost : post 1 ()) {a b c m : Nat} (ha : a < 10) (hb : b < 4) (hc : c < 10) (hm : m < 6) (hA : fw_Arcs fw_PR1 fw_FR1 fw_TT1 (fw_RM1 a b c) pr a1 a2 a3) {z0 z1 : Int32} (hz : z1 = z0) : wL_lawOf_669 post mc ms (nI a) (nI b) (nI m) (nI (Nat.mul 3 c)) (nI (fw_fA a b c)) (nI (fw_less a b c m)) z0 z1 kc ks pr so si ed fl qf qs oc a1 a2 a3 a4 a5 a6 a7 a8 a9 a10 a11 a12 a13 a14 a15 a16 a17 a18 a19 := by
  have hlA := fw_fA_lt a b c
  refine br_t hz (fw_apart_c (s := 0) (t := 7) rfl rfl hA (by omega) (by omega) (by omega) (fw_Ly11 ha hb hc) (fw_k_apart ha hb hc) (fun so2 si2 ed2 fl2 qf2 qs2 oc2 b4 b5 b6 b7 b8 b9 b10 b11 b12 b13 b14 b15 b16 b17 b18 b19 => ?_))
  by_cases e : fw_fA a b c = 0
  · exact br_t (by rw [e]; rfl) (fw_L690 hpost ha hb hc hm hA (by unfold fw_all3; rw [fw_ifn0 e]; rfl))
  · exact br_f (nI_ne0 (by omega) (by omega)) (fw_L690 hpost ha hb hc hm hA (by unfold fw_all3; rw [fw_ifn1 e]; rfl))
theorem fw_L634 {post : Int32 → St0 → Prop} {mc ms kc ks : Nat} (hpost : post 1 ()) {a b c m : Nat} (ha : a < 10) (hb : b < 4) (hc : c < 10) (hm : m < 6) (hA : fw_Arcs fw_PR1 fw_FR1 fw_TT1 (fw_RM1 a b c) pr a1 a2 a3) {z0 z1 : Int32} (hz : z1 = z0) : wL_lawOf_634 post mc ms (nI a) (nI b) (nI m) (nI (Nat.mul 3 c)) (nI (fw_fT a b c)) (nI (fw_fS a b c)) (nI (fw_fA a b c)) (nI (fw_less a b c m)) z0 z1 kc ks pr so si ed fl qf qs oc a1 a2 a3 a4 a5 a6 a7 a8 a9 a10 a11 a12 a13 a14 a15 a16 a17 a18 a19 := by
  have hs := fw_eqn_lt (Nat.add (Nat.add (fw_ifn (Nat.beq (fw_fX a b c) 0) 0 1) (fw_ifn (Nat.beq (fw_fY a b c) 0) 0 1)) (fw_ifn (Nat.beq (fw_fZ a b c) 0) 0 1)) 1
  have hs : fw_fS a b c < 2 := hs
  refine br_t hz (fw_tight_c (s := 0) (t := 7) rfl rfl hA (by omega) (by omega) (by omega) (fw_Ly10 ha hb hc) (fw_k_tight ha hb hc) (fun so' si' ed' fl' qf' qs' oc' a4' a5' a6' a7' a8' a9' a10' a11' a12' a13' a14' a15' a16' a17' a18' a19' => br_t rfl (fw_widening_c (s := 0) (t := 7) rfl rfl hA (by omega) (by omega) (by omega) (fw_Ly10 ha hb hc) (fw_k_wid ha hb hc) (fun so2 si2 ed2 fl2 qf2 qs2 oc2 b4 b5 b6 b7 b8 b9 b10 b11 b12 b13 b14 b15 b16 b17 b18 b19 => ?_))))
  by_cases e : fw_fS a b c = 0
  · exact br_t (by rw [e]; rfl) (fw_L669 hpost ha hb hc hm hA (by unfold fw_fW; rw [fw_ifn0 e]; rfl))
  · exact br_f (nI_ne0 (by omega) (by omega)) (fw_L669 hpost ha hb hc hm hA (by unfold fw_fW; rw [fw_ifn1 e]))
theorem fw_L602 {post : Int32 → St0 → Prop} {mc ms kc ks : Nat} (hpost : post 1 ()) {a b c m : Nat} (ha : a < 10) (hb : b < 4) (hc : c < 10) (hm : m < 6) (hA : fw_Arcs fw_PR1 fw_FR1 fw_TT1 (fw_RM1 a b c) pr a1 a2 a3) {z0 z1 : Int32} (hz : z1 = z0) : wL_lawOf_602 post mc ms (nI a) (nI b) (nI m) (nI (Nat.mul 3 c)) (nI (fw_fY a b c)) (nI (fw_fZ a b c)) (nI (fw_fT a b c)) (nI (fw_fS a b c)) (nI (fw_fA a b c)) (nI (fw_less a b c m)) z0 z1 kc ks pr so si ed fl qf qs oc a1 a2 a3 a4 a5 a6 a7 a8 a9 a10 a11 a12 a13 a14 a15 a16 a17 a18 a19 := by
  have hY : fw_fY a b c < 2 := fw_eqn_lt _ _
  have hZ : fw_fZ a b c < 2 := fw_eqn_lt _ _
  refine br_t hz (fw_most_c (s := 0) (t := 7) rfl rfl hA (by omega) (by omega) (by omega) (fw_Ly10 ha hb hc) (fw_k_most ha hb hc) (fun so2 si2 ed2 fl2 qf2 qs2 oc2 b4 b5 b6 b7 b8 b9 b10 b11 b12 b13 b14 b15 b16 b17 b18 b19 => ?_))
  by_cases e : fw_fZ a b c = 0
  · refine br_t (by rw [e]; rfl) ?_
    by_cases e2 : fw_fY a b c = 0
    · exact br_t (by rw [e2]; rfl) (fw_L634 hpost ha hb hc hm hA (by unfold fw_fM; rw [fw_ifn0 e, fw_ifn0 e2]; decide))
    · exact br_f (nI_ne0 (by omega) (by omega)) (fw_L634 hpost ha hb hc hm hA (by unfold fw_fM; rw [fw_ifn0 e, fw_ifn1 e2]; decide))
  · exact br_f (nI_ne0 (by omega) (by omega)) (fw_L634 hpost ha hb hc hm hA (by unfold fw_fM; rw [fw_ifn1 e]; decide))
theorem fw_L566 {post : Int32 → St0 → Prop} {mc ms kc ks : Nat} (hpost : post 1 ()) {a b c m : Nat} (ha : a < 10) (hb : b < 4) (hc : c < 10) (hm : m < 6) (hA : fw_Arcs fw_PR1 fw_FR1 fw_TT1 (fw_RM1 a b c) pr a1 a2 a3) : wL_lawOf_566 post mc ms (nI a) (nI b) (nI m) 1 (nI (Nat.mul 3 c)) (nI (fw_fX a b c)) (nI (fw_fY a b c)) (nI (fw_fZ a b c)) (nI (fw_fT a b c)) (nI (fw_fS a b c)) (nI (fw_fA a b c)) (nI (fw_less a b c m)) kc ks pr so si ed fl qf qs oc a1 a2 a3 a4 a5 a6 a7 a8 a9 a10 a11 a12 a13 a14 a15 a16 a17 a18 a19 := by
  have hX : fw_fX a b c < 2 := fw_eqn_lt _ _
  have hY : fw_fY a b c < 2 := fw_eqn_lt _ _
  refine br_f (by decide) (fw_least_c (s := 0) (t := 7) rfl rfl hA (by omega) (by omega) (by omega) (fw_Ly10 ha hb hc) (fw_k_least ha hb hc) (fun so2 si2 ed2 fl2 qf2 qs2 oc2 b4 b5 b6 b7 b8 b9 b10 b11 b12 b13 b14 b15 b16 b17 b18 b19 => ?_))
  by_cases e : fw_fX a b c = 0
  · refine br_t (by rw [e]; rfl) ?_
    by_cases e2 : fw_fY a b c = 0
    · exact br_t (by rw [e2]; rfl) (fw_L602 hpost ha hb hc hm hA (by unfold fw_fL; rw [fw_ifn0 e, fw_ifn0 e2]; rfl))
    · exact br_f (nI_ne0 (by omega) (by omega)) (fw_L602 hpost ha hb hc hm hA (by unfold fw_fL; rw [fw_ifn0 e, fw_ifn1 e2]; rfl))
  · exact br_f (nI_ne0 (by omega) (by omega)) (fw_L602 hpost ha hb hc hm hA (by unfold fw_fL; rw [fw_ifn1 e]; rfl))
theorem fw_L546 {post : Int32 → St0 → Prop} {mc ms kc ks : Nat} (hpost : post 1 ()) {a b c m : Nat} (ha : a < 10) (hb : b < 4) (hc : c < 10) (hm : m < 6) (hA : fw_Arcs fw_PR1 fw_FR1 fw_TT1 (fw_RM1 a b c) pr a1 a2 a3) : wL_lawOf_546 post mc ms (nI a) (nI b) (nI m) 1 (nI (Nat.mul 9 b)) (nI (Nat.mul 3 c)) (nI (fw_fX a b c)) (nI (fw_fY a b c)) (nI (fw_fZ a b c)) (nI (fw_fT a b c)) (nI (fw_fS a b c)) (nI (fw_fA a b c)) (nI (fw_mn (fw_mn m c) (fw_mn m a))) kc ks pr so si ed fl qf qs oc a1 a2 a3 a4 a5 a6 a7 a8 a9 a10 a11 a12 a13 a14 a15 a16 a17 a18 a19 := by
  have e : (3 : Int32) * nI (fw_mn (fw_mn m c) (fw_mn m a)) = nI (Nat.mul 3 (fw_mn (fw_mn m c) (fw_mn m a))) := pk_mul 3 _
  have l : fw_mn (fw_mn m c) (fw_mn m a) < 10 := fw_mn_lt (fw_mn_lt (by omega) hc) (fw_mn_lt (by omega) ha)
  show ((nI (Nat.mul 9 b)) ≤ (3 : Int32) * nI (fw_mn (fw_mn m c) (fw_mn m a)) → wL_lawOf_566 post mc ms (nI a) (nI b) (nI m) 1 (nI (Nat.mul 3 c)) (nI (fw_fX a b c)) (nI (fw_fY a b c)) (nI (fw_fZ a b c)) (nI (fw_fT a b c)) (nI (fw_fS a b c)) (nI (fw_fA a b c)) (nI (Nat.mul 9 b)) kc ks pr so si ed fl qf qs oc a1 a2 a3 a4 a5 a6 a7 a8 a9 a10 a11 a12 a13 a14 a15 a16 a17 a18 a19) ∧ (¬ (nI (Nat.mul 9 b)) ≤ (3 : Int32) * nI (fw_mn (fw_mn m c) (fw_mn m a)) → wL_lawOf_566 post mc ms (nI a) (nI b) (nI m) 1 (nI (Nat.mul 3 c)) (nI (fw_fX a b c)) (nI (fw_fY a b c)) (nI (fw_fZ a b c)) (nI (fw_fT a b c)) (nI (fw_fS a b c)) (nI (fw_fA a b c)) ((3 : Int32) * nI (fw_mn (fw_mn m c) (fw_mn m a))) kc ks pr so si ed fl qf qs oc a1 a2 a3 a4 a5 a6 a7 a8 a9 a10 a11 a12 a13 a14 a15 a16 a17 a18 a19)
  rw [e]
  exact fw_brmn (P := fun z => wL_lawOf_566 post mc ms (nI a) (nI b) (nI m) 1 (nI (Nat.mul 3 c)) (nI (fw_fX a b c)) (nI (fw_fY a b c)) (nI (fw_fZ a b c)) (nI (fw_fT a b c)) (nI (fw_fS a b c)) (nI (fw_fA a b c)) z kc ks pr so si ed fl qf qs oc a1 a2 a3 a4 a5 a6 a7 a8 a9 a10 a11 a12 a13 a14 a15 a16 a17 a18 a19) (show 9 * b < 65536 by omega) (show 3 * fw_mn (fw_mn m c) (fw_mn m a) < 65536 by omega) (fw_L566 hpost ha hb hc hm hA)
theorem fw_L498 {post : Int32 → St0 → Prop} {mc ms kc ks : Nat} (hpost : post 1 ()) {a b c m : Nat} (ha : a < 10) (hb : b < 4) (hc : c < 10) (hm : m < 6) (hA : fw_Arcs fw_PR1 fw_FR1 fw_TT1 (fw_RM1 a b c) pr a1 a2 a3) : wL_lawOf_498 post mc ms (nI a) (nI b) (nI c) (nI m) 1 (nI (Nat.mul 9 b)) (nI (Nat.mul 3 c)) (nI (fw_fX a b c)) (nI (fw_fY a b c)) (nI (fw_fZ a b c)) (nI (fw_fT a b c)) (nI (fw_fS a b c)) (nI (fw_fA a b c)) kc ks pr so si ed fl qf qs oc a1 a2 a3 a4 a5 a6 a7 a8 a9 a10 a11 a12 a13 a14 a15 a16 a17 a18 a19 := by
  have l1 : fw_mn m a < 65536 := fw_mn_lt (by omega) (by omega)
  have l2 : fw_mn m c < 65536 := fw_mn_lt (by omega) (by omega)
  refine fw_brmn (P := fun z => wL_lawOf_514 post mc ms (nI a) (nI b) (nI c) (nI m) 1 (nI (Nat.mul 9 b)) (nI (Nat.mul 3 c)) (nI (fw_fX a b c)) (nI (fw_fY a b c)) (nI (fw_fZ a b c)) (nI (fw_fT a b c)) (nI (fw_fS a b c)) (nI (fw_fA a b c)) z kc ks pr so si ed fl qf qs oc a1 a2 a3 a4 a5 a6 a7 a8 a9 a10 a11 a12 a13 a14 a15 a16 a17 a18 a19) (by omega) (by omega) ?_
  refine fw_brmn (P := fun z => wL_lawOf_530 post mc ms (nI a) (nI b) (nI m) 1 (nI (Nat.mul 9 b)) (nI (Nat.mul 3 c)) (nI (fw_fX a b c)) (nI (fw_fY a b c)) (nI (fw_fZ a b c)) (nI (fw_fT a b c)) (nI (fw_fS a b c)) (nI (fw_fA a b c)) (nI (fw_mn m a)) z kc ks pr so si ed fl qf qs oc a1 a2 a3 a4 a5 a6 a7 a8 a9 a10 a11 a12 a13 a14 a15 a16 a17 a18 a19) (by omega) (by omega) ?_
  exact fw_brmn (P := fun z => wL_lawOf_546 post mc ms (nI a) (nI b) (nI m) 1 (nI (Nat.mul 9 b)) (nI (Nat.mul 3 c)) (nI (fw_fX a b c)) (nI (fw_fY a b c)) (nI (fw_fZ a b c)) (nI (fw_fT a b c)) (nI (fw_fS a b c)) (nI (fw_fA a b c)) z kc ks pr so si ed fl qf qs oc a1 a2 a3 a4 a5 a6 a7 a8 a9 a10 a11 a12 a13 a14 a15 a16 a17 a18 a19) l2 l1 (fw_L546 hpost ha hb hc hm hA)
end
section
variable {pr : Int32} {a1 a2 a3 : Nat → Int32}
theorem fw_L395 {post : Int32 → St0 → Prop} {mc ms kc ks : Nat} (hpost : post 1 ()) {a b c m : Nat} (ha : a < 10) (hb : b < 4) (hc : c < 10) (hm : m < 6) (hA : fw_Arcs fw_PR1 fw_FR1 fw_TT1 (fw_RM1 a b c) pr a1 a2 a3) : ∀ (F e : Nat) (so si ed fl qf qs oc : Int32) (a4 a5 a6 a7 a8 a9 a10 a11 a12 a13 a14 a15 a16 a17 a18 a19 : Nat → Int32), e + F = 7 → wL_lawOf_395 post mc ms (nI a) (nI b) (nI c) (nI m) (nI (Nat.mul 9 b)) (nI (Nat.mul 3 c)) (nI (fw_val a b c)) (nI (fw_fX a b c)) (nI (fw_fY a b c)) (nI (fw_fZ a b c)) (nI (fw_fT a b c)) (nI (fw_fS a b c)) kc ks (F + 1) 1 (nI e) pr so si ed fl qf qs oc a1 a2 a3 a4 a5 a6 a7 a8 a9 a10 a11 a12 a13 a14 a15 a16 a17 a18 a19 := by
  intro F
  induction F with
  | zero =>
    intro e so si ed fl qf qs oc a4 a5 a6 a7 a8 a9 a10 a11 a12 a13 a14 a15 a16 a17 a18 a19 he
    refine br_t (by rw [show e = 7 by omega]; decide) ?_
    have W : wL_lawOf_498 post mc ms (nI a) (nI b) (nI c) (nI m) 1 (nI (Nat.mul 9 b)) (nI (Nat.mul 3 c)) (nI (fw_fX a b c)) (nI (fw_fY a b c)) (nI (fw_fZ a b c)) (nI (fw_fT a b c)) (nI (fw_fS a b c)) (nI (fw_fA a b c)) kc ks pr so si ed fl qf qs oc a1 a2 a3 a4 a5 a6 a7 a8 a9 a10 a11 a12 a13 a14 a15 a16 a17 a18 a19 := fw_L498 hpost ha hb hc hm hA
    unfold fw_fA at W
    by_cases e1 : a = 0
    · rw [fw_ifn0 e1] at W
      exact br_t (by rw [e1]; decide) W
    rw [fw_ifn1 e1] at W
    refine br_f (nI_nle (by omega) (by omega)) ?_
    by_cases e2 : b = 0
    · rw [fw_ifn0 e2] at W
      exact br_t (by rw [e2]; decide) W
    rw [fw_ifn1 e2] at W
    refine br_f (nI_nle (by omega) (by omega)) ?_
    by_cases e3 : c = 0
    · rw [fw_ifn0 e3] at W
      exact br_t (by rw [e3]; decide) W
    rw [fw_ifn1 e3] at W
    exact br_f (nI_nle (by omega) (by omega)) W
  | succ F ih =>
    intro e so si ed fl qf qs oc a4 a5 a6 a7 a8 a9 a10 a11 a12 a13 a14 a15 a16 a17 a18 a19 he
    refine br_f (nI_ge (b := 7) (by omega) (by decide)) (fw_value_c (s := 0) (t := 7) (g := e) rfl rfl rfl hA (by omega) (by omega) (by omega) (by omega) (fw_Ly10 ha hb hc) (fw_kp ha hb hc (by omega)) (fun so' si' ed' fl' qf' qs' oc' a4' a5' a6' a7' a8' a9' a10' a11' a12' a13' a14' a15' a16' a17' a18' a19' => br_t rfl ?_))
    refine fw_agree_c (s := 0) (t := 7) (g := e) (h := 6 - e) rfl (pk_sub (a := 6) (by omega)) rfl rfl hA (by omega) (by omega) (by omega) (by omega) (by omega) (fw_Ly10 ha hb hc) (fw_kp ha hb hc (by omega)) (fw_kp ha hb hc (by omega)) (fun so2 si2 ed2 fl2 qf2 qs2 oc2 b4 b5 b6 b7 b8 b9 b10 b11 b12 b13 b14 b15 b16 b17 b18 b19 => br_f (by decide) ?_)
    refine fw_value_c (s := 7) (t := 0) (g := e) rfl rfl rfl hA (by omega) (by omega) (by omega) (by omega) (fw_Lay_k (by decide) (fw_Ly10 ha hb hc) 7 0) (fw_kr ha hb hc (by omega)) (fun so' si' ed' fl' qf' qs' oc' a4' a5' a6' a7' a8' a9' a10' a11' a12' a13' a14' a15' a16' a17' a18' a19' => br_t rfl (br_f (by decide) (br_f (by decide) (nm_r (nI_1 e) (ih _ _ _ _ _ _ _ _ _ _ _ _ _ _ _ _ _ _ _ _ _ _ _ _ (by omega))))))
end
section
variable {pr so si ed fl qf qs oc : Int32} {a1 a2 a3 a4 a5 a6 a7 a8 a9 a10 a11 a12 a13 a14 a15 a16 a17 a18 a19 : Nat → Int32}
theorem fw_L250 {post : Int32 → St0 → Prop} {mc ms kc ks : Nat} (hpost : post 1 ()) {a b c m : Nat} (ha : a < 10) (hb : b < 4) (hc : c < 10) (hm : m < 6) (hA : fw_Arcs fw_PR1 fw_FR1 fw_TT1 (fw_RM1 a b c) pr a1 a2 a3) : wL_lawOf_250 post mc ms (nI a) (nI b) (nI c) (nI m) 1 (nI (Nat.mul 3 a)) (nI (Nat.mul 9 b)) (nI (Nat.mul 3 c)) (nI (fw_mn (Nat.mul 9 b) (Nat.mul 3 a))) kc ks pr so si ed fl qf qs oc a1 a2 a3 a4 a5 a6 a7 a8 a9 a10 a11 a12 a13 a14 a15 a16 a17 a18 a19 := by
  have hv : fw_val a b c < 65536 := Nat.lt_of_lt_of_le (fw_val_lt ha hb hc) (by decide)
  have hX : fw_fX a b c < 65536 := Nat.lt_of_lt_of_le (fw_eqn_lt _ _) (by decide)
  have hY : fw_fY a b c < 65536 := Nat.lt_of_lt_of_le (fw_eqn_lt _ _) (by decide)
  have hZ : fw_fZ a b c < 65536 := Nat.lt_of_lt_of_le (fw_eqn_lt _ _) (by decide)
  refine fw_brmn (P := fun z => wL_lawOf_266 post mc ms (nI a) (nI b) (nI c) (nI m) 1 (nI (Nat.mul 3 a)) (nI (Nat.mul 9 b)) (nI (Nat.mul 3 c)) z kc ks pr so si ed fl qf qs oc a1 a2 a3 a4 a5 a6 a7 a8 a9 a10 a11 a12 a13 a14 a15 a16 a17 a18 a19) (show 3 * c < 65536 by omega) (fw_mn_lt (show 9 * b < 65536 by omega) (show 3 * a < 65536 by omega)) ?_
  refine fw_breq (P := fun z => wL_lawOf_280 post mc ms (nI a) (nI b) (nI c) (nI m) 1 (nI (Nat.mul 9 b)) (nI (Nat.mul 3 c)) (nI (fw_val a b c)) z kc ks pr so si ed fl qf qs oc a1 a2 a3 a4 a5 a6 a7 a8 a9 a10 a11 a12 a13 a14 a15 a16 a17 a18 a19) (show 3 * a < 65536 by omega) hv ?_
  refine fw_breq (P := fun z => wL_lawOf_294 post mc ms (nI a) (nI b) (nI c) (nI m) 1 (nI (Nat.mul 9 b)) (nI (Nat.mul 3 c)) (nI (fw_val a b c)) (nI (fw_fX a b c)) z kc ks pr so si ed fl qf qs oc a1 a2 a3 a4 a5 a6 a7 a8 a9 a10 a11 a12 a13 a14 a15 a16 a17 a18 a19) (show 9 * b < 65536 by omega) hv ?_
  refine fw_breq (P := fun z => wL_lawOf_308 post mc ms (nI a) (nI b) (nI c) (nI m) 1 (nI (Nat.mul 9 b)) (nI (Nat.mul 3 c)) (nI (fw_val a b c)) (nI (fw_fX a b c)) (nI (fw_fY a b c)) z kc ks pr so si ed fl qf qs oc a1 a2 a3 a4 a5 a6 a7 a8 a9 a10 a11 a12 a13 a14 a15 a16 a17 a18 a19) (show 3 * c < 65536 by omega) hv ?_
  refine fw_brz (P := fun z => wL_lawOf_321 post mc ms (nI a) (nI b) (nI c) (nI m) 1 (nI (Nat.mul 9 b)) (nI (Nat.mul 3 c)) (nI (fw_val a b c)) (nI (fw_fX a b c)) (nI (fw_fY a b c)) (nI (fw_fZ a b c)) z kc ks pr so si ed fl qf qs oc a1 a2 a3 a4 a5 a6 a7 a8 a9 a10 a11 a12 a13 a14 a15 a16 a17 a18 a19) (x := 0) (y := 7) rfl rfl hX ?_
  refine fw_brz (P := fun z => wL_lawOf_333 post mc ms (nI a) (nI b) (nI c) (nI m) 1 (nI (Nat.mul 9 b)) (nI (Nat.mul 3 c)) (nI (fw_val a b c)) (nI (fw_fX a b c)) (nI (fw_fY a b c)) (nI (fw_fZ a b c)) z (nI (fw_ifn (Nat.beq (fw_fX a b c) 0) 0 7)) kc ks pr so si ed fl qf qs oc a1 a2 a3 a4 a5 a6 a7 a8 a9 a10 a11 a12 a13 a14 a15 a16 a17 a18 a19) (x := 0) (y := 4088) rfl rfl hY ?_
  show ((nI (fw_fZ a b c)) = 0 → wL_lawOf_346 post mc ms (nI a) (nI b) (nI c) (nI m) 1 (nI (Nat.mul 9 b)) (nI (Nat.mul 3 c)) (nI (fw_val a b c)) (nI (fw_fX a b c)) (nI (fw_fY a b c)) (nI (fw_fZ a b c)) 0 (nI (fw_ifn (Nat.beq (fw_fX a b c) 0) 0 7) + nI (fw_ifn (Nat.beq (fw_fY a b c) 0) 0 4088)) kc ks pr so si ed fl qf qs oc a1 a2 a3 a4 a5 a6 a7 a8 a9 a10 a11 a12 a13 a14 a15 a16 a17 a18 a19) ∧ (¬ (nI (fw_fZ a b c)) = 0 → wL_lawOf_346 post mc ms (nI a) (nI b) (nI c) (nI m) 1 (nI (Nat.mul 9 b)) (nI (Nat.mul 3 c)) (nI (fw_val a b c)) (nI (fw_fX a b c)) (nI (fw_fY a b c)) (nI (fw_fZ a b c)) 28672 (nI (fw_ifn (Nat.beq (fw_fX a b c) 0) 0 7) + nI (fw_ifn (Nat.beq (fw_fY a b c) 0) 0 4088)) kc ks pr so si ed fl qf qs oc a1 a2 a3 a4 a5 a6 a7 a8 a9 a10 a11 a12 a13 a14 a15 a16 a17 a18 a19)
  rw [nI_add]
  refine fw_brz (P := fun z => wL_lawOf_346 post mc ms (nI a) (nI b) (nI c) (nI m) 1 (nI (Nat.mul 9 b)) (nI (Nat.mul 3 c)) (nI (fw_val a b c)) (nI (fw_fX a b c)) (nI (fw_fY a b c)) (nI (fw_fZ a b c)) z (nI (fw_ifn (Nat.beq (fw_fX a b c) 0) 0 7 + fw_ifn (Nat.beq (fw_fY a b c) 0) 0 4088)) kc ks pr so si ed fl qf qs oc a1 a2 a3 a4 a5 a6 a7 a8 a9 a10 a11 a12 a13 a14 a15 a16 a17 a18 a19) (x := 0) (y := 28672) rfl rfl hZ ?_
  refine nm_r (e' := (nI (fw_fT a b c))) (nI_add _ _) ?_
  refine fw_brz (P := fun z => wL_lawOf_359 post mc ms (nI a) (nI b) (nI c) (nI m) 1 (nI (Nat.mul 9 b)) (nI (Nat.mul 3 c)) (nI (fw_val a b c)) (nI (fw_fX a b c)) (nI (fw_fY a b c)) (nI (fw_fZ a b c)) (nI (fw_fT a b c)) z kc ks pr so si ed fl qf qs oc a1 a2 a3 a4 a5 a6 a7 a8 a9 a10 a11 a12 a13 a14 a15 a16 a17 a18 a19) (x := 0) (y := 1) rfl rfl hX ?_
  refine fw_brz (P := fun z => wL_lawOf_369 post mc ms (nI a) (nI b) (nI c) (nI m) 1 (nI (Nat.mul 9 b)) (nI (Nat.mul 3 c)) (nI (fw_val a b c)) (nI (fw_fX a b c)) (nI (fw_fY a b c)) (nI (fw_fZ a b c)) (nI (fw_fT a b c)) z (nI (fw_ifn (Nat.beq (fw_fX a b c) 0) 0 1)) kc ks pr so si ed fl qf qs oc a1 a2 a3 a4 a5 a6 a7 a8 a9 a10 a11 a12 a13 a14 a15 a16 a17 a18 a19) (x := 0) (y := 1) rfl rfl hY ?_
  show ((nI (fw_fZ a b c)) = 0 → wL_lawOf_380 post mc ms (nI a) (nI b) (nI c) (nI m) 1 (nI (Nat.mul 9 b)) (nI (Nat.mul 3 c)) (nI (fw_val a b c)) (nI (fw_fX a b c)) (nI (fw_fY a b c)) (nI (fw_fZ a b c)) (nI (fw_fT a b c)) 0 (nI (fw_ifn (Nat.beq (fw_fX a b c) 0) 0 1) + nI (fw_ifn (Nat.beq (fw_fY a b c) 0) 0 1)) kc ks pr so si ed fl qf qs oc a1 a2 a3 a4 a5 a6 a7 a8 a9 a10 a11 a12 a13 a14 a15 a16 a17 a18 a19) ∧ (¬ (nI (fw_fZ a b c)) = 0 → wL_lawOf_380 post mc ms (nI a) (nI b) (nI c) (nI m) 1 (nI (Nat.mul 9 b)) (nI (Nat.mul 3 c)) (nI (fw_val a b c)) (nI (fw_fX a b c)) (nI (fw_fY a b c)) (nI (fw_fZ a b c)) (nI (fw_fT a b c)) 1 (nI (fw_ifn (Nat.beq (fw_fX a b c) 0) 0 1) + nI (fw_ifn (Nat.beq (fw_fY a b c) 0) 0 1)) kc ks pr so si ed fl qf qs oc a1 a2 a3 a4 a5 a6 a7 a8 a9 a10 a11 a12 a13 a14 a15 a16 a17 a18 a19)
  rw [nI_add]
  refine fw_brz (P := fun z => wL_lawOf_380 post mc ms (nI a) (nI b) (nI c) (nI m) 1 (nI (Nat.mul 9 b)) (nI (Nat.mul 3 c)) (nI (fw_val a b c)) (nI (fw_fX a b c)) (nI (fw_fY a b c)) (nI (fw_fZ a b c)) (nI (fw_fT a b c)) z (nI (fw_ifn (Nat.beq (fw_fX a b c) 0) 0 1 + fw_ifn (Nat.beq (fw_fY a b c) 0) 0 1)) kc ks pr so si ed fl qf qs oc a1 a2 a3 a4 a5 a6 a7 a8 a9 a10 a11 a12 a13 a14 a15 a16 a17 a18 a19) (x := 0) (y := 1) rfl rfl hZ ?_
  show (nI (fw_ifn (Nat.beq (fw_fX a b c) 0) 0 1 + fw_ifn (Nat.beq (fw_fY a b c) 0) 0 1) + nI (fw_ifn (Nat.beq (fw_fZ a b c) 0) 0 1) = nI 1 → ∃ fu395 : Nat, wL_lawOf_395 post mc ms (nI a) (nI b) (nI c) (nI m) (nI (Nat.mul 9 b)) (nI (Nat.mul 3 c)) (nI (fw_val a b c)) (nI (fw_fX a b c)) (nI (fw_fY a b c)) (nI (fw_fZ a b c)) (nI (fw_fT a b c)) 1 kc ks fu395 1 0 pr so si ed fl qf qs oc a1 a2 a3 a4 a5 a6 a7 a8 a9 a10 a11 a12 a13 a14 a15 a16 a17 a18 a19) ∧ (¬ nI (fw_ifn (Nat.beq (fw_fX a b c) 0) 0 1 + fw_ifn (Nat.beq (fw_fY a b c) 0) 0 1) + nI (fw_ifn (Nat.beq (fw_fZ a b c) 0) 0 1) = nI 1 → ∃ fu395 : Nat, wL_lawOf_395 post mc ms (nI a) (nI b) (nI c) (nI m) (nI (Nat.mul 9 b)) (nI (Nat.mul 3 c)) (nI (fw_val a b c)) (nI (fw_fX a b c)) (nI (fw_fY a b c)) (nI (fw_fZ a b c)) (nI (fw_fT a b c)) 0 kc ks fu395 1 0 pr so si ed fl qf qs oc a1 a2 a3 a4 a5 a6 a7 a8 a9 a10 a11 a12 a13 a14 a15 a16 a17 a18 a19)
  rw [nI_add]
  have i1 : ∀ q : Nat, fw_ifn (Nat.beq q 0) 0 1 < 2 := fun q => fw_ifn_lt (by omega) (by omega)
  have j1 := i1 (fw_fX a b c)
  have j2 := i1 (fw_fY a b c)
  have j3 := i1 (fw_fZ a b c)
  exact fw_breq (P := fun z => ∃ fu395 : Nat, wL_lawOf_395 post mc ms (nI a) (nI b) (nI c) (nI m) (nI (Nat.mul 9 b)) (nI (Nat.mul 3 c)) (nI (fw_val a b c)) (nI (fw_fX a b c)) (nI (fw_fY a b c)) (nI (fw_fZ a b c)) (nI (fw_fT a b c)) z kc ks fu395 1 0 pr so si ed fl qf qs oc a1 a2 a3 a4 a5 a6 a7 a8 a9 a10 a11 a12 a13 a14 a15 a16 a17 a18 a19) (by omega) (by omega) ⟨8, fw_L395 hpost ha hb hc hm hA 7 0 _ _ _ _ _ _ _ _ _ _ _ _ _ _ _ _ _ _ _ _ _ _ _ (by omega)⟩
end
end
section
/-! the law's beginning, and what is owed (written by mklast.py) -/
section
variable {pr so si ed fl qf qs oc : Int32} {a1 a2 a3 a4 a5 a6 a7 a8 a9 a10 a11 a12 a13 a14 a15 a16 a17 a18 a19 : Nat → Int32}
theorem fw_S47 {post : Int32 → St0 → Prop} {mc ms kc ks : Nat} (hpost : post 1 ()) {a b c m : Nat} (ha : a < 10) (hb : b < 4) (hc : c < 10) (hm : m < 6) {PR FR TT RM : Nat} (hA : fw_Arcs PR FR TT RM pr a1 a2 a3) {i n : Nat} (hi : i < 3) (hlt : ∀ q, q < i → fw_b PR q ≠ 0) (h0 : fw_b PR i = 0)
    (next : ∀ (pr' : Int32) (a1' a2' a3' : Nat → Int32), fw_Arcs (fw_on PR i) (fw_s FR i 0) (fw_s TT i (1 + i)) (fw_s RM i a) pr' a1' a2' a3' → wL_lawOf_47 post mc ms (nI a) (nI b) (nI c) (nI m) kc ks n 1 (nI (i + 1)) pr' so si ed fl qf qs oc a1' a2' a3' a4 a5 a6 a7 a8 a9 a10 a11 a12 a13 a14 a15 a16 a17 a18 a19) :
    wL_lawOf_47 post mc ms (nI a) (nI b) (nI c) (nI m) kc ks (n + 1) 1 (nI i) pr so si ed fl qf qs oc a1 a2 a3 a4 a5 a6 a7 a8 a9 a10 a11 a12 a13 a14 a15 a16 a17 a18 a19 :=
  br_f (nI_ge (b := 3) hi (by decide)) (fw_add_c (a := 0) (b := 1 + i) (r := a) rfl (nI_add 1 i) rfl hA (by omega) (by omega) (by omega) (by omega) (by omega) hlt h0 (fun pr' b1 b2 b3 hA' => br_f (by decide) (br_t rfl (nm_r (nI_1 i) (next _ _ _ _ hA')))))
theorem fw_S104 {post : Int32 → St0 → Prop} {mc ms kc ks : Nat} (hpost : post 1 ()) {a b c m : Nat} (ha : a < 10) (hb : b < 4) (hc : c < 10) (hm : m < 6) {PR FR TT RM : Nat} (hA : fw_Arcs PR FR TT RM pr a1 a2 a3) {J : Int32 → Int32 → Int32 → Int32 → Int32 → Int32 → Int32 → Int32 → Int32 → Int32 → (Nat → Int32) → (Nat → Int32) → (Nat → Int32) → (Nat → Int32) → (Nat → Int32) → (Nat → Int32) → (Nat → Int32) → (Nat → Int32) → (Nat → Int32) → (Nat → Int32) → (Nat → Int32) → (Nat → Int32) → (Nat → Int32) → (Nat → Int32) → (Nat → Int32) → (Nat → Int32) → (Nat → Int32) → (Nat → Int32) → (Nat → Int32) → Prop} {i j n : Nat} (hi : i < 3) (hj : j < 3) (hlt : ∀ q, q < 3 + 3 * i + j → fw_b PR q ≠ 0) (h0 : fw_b PR (3 + 3 * i + j) = 0)
    (next : ∀ (pr' : Int32) (a1' a2' a3' : Nat → Int32), fw_Arcs (fw_on PR (3 + 3 * i + j)) (fw_s FR (3 + 3 * i + j) (1 + i)) (fw_s TT (3 + 3 * i + j) (4 + j)) (fw_s RM (3 + 3 * i + j) b) pr' a1' a2' a3' → wL_lawOf_104 post mc ms J (nI a) (nI b) (nI c) (nI m) (nI i) kc ks n 1 (nI (j + 1)) pr' so si ed fl qf qs oc a1' a2' a3' a4 a5 a6 a7 a8 a9 a10 a11 a12 a13 a14 a15 a16 a17 a18 a19) :
    wL_lawOf_104 post mc ms J (nI a) (nI b) (nI c) (nI m) (nI i) kc ks (n + 1) 1 (nI j) pr so si ed fl qf qs oc a1 a2 a3 a4 a5 a6 a7 a8 a9 a10 a11 a12 a13 a14 a15 a16 a17 a18 a19 := by
  have e : (3 : Int32) + (3 : Int32) * nI i + nI j = nI (3 + 3 * i + j) := by
    rw [show (3 : Int32) * nI i = nI (3 * i) from pk_mul 3 i, show (3 : Int32) + nI (3 * i) = nI (3 + 3 * i) from nI_add 3 (3 * i), nI_add]
  exact br_f (nI_ge (b := 3) hj (by decide)) (fw_add_c (a := 1 + i) (b := 4 + j) (r := b) (nI_add 1 i) (nI_add 4 j) rfl hA (by omega) (by omega) (by omega) (by omega) (by omega) hlt h0 (fun pr' b1 b2 b3 hA' => br_f (by decide) (br_t e.symm (nm_r (nI_1 j) (next _ _ _ _ hA')))))
theorem fw_S168 {post : Int32 → St0 → Prop} {mc ms kc ks : Nat} (hpost : post 1 ()) {a b c m : Nat} (ha : a < 10) (hb : b < 4) (hc : c < 10) (hm : m < 6) {PR FR TT RM : Nat} (hA : fw_Arcs PR FR TT RM pr a1 a2 a3) {j n : Nat} (hj : j < 3) (hlt : ∀ q, q < 12 + j → fw_b PR q ≠ 0) (h0 : fw_b PR (12 + j) = 0)
    (next : ∀ (pr' : Int32) (a1' a2' a3' : Nat → Int32), fw_Arcs (fw_on PR (12 + j)) (fw_s FR (12 + j) (4 + j)) (fw_s TT (12 + j) 7) (fw_s RM (12 + j) c) pr' a1' a2' a3' → wL_lawOf_168 post mc ms (nI a) (nI b) (nI c) (nI m) kc ks n 1 (nI (j + 1)) pr' so si ed fl qf qs oc a1' a2' a3' a4 a5 a6 a7 a8 a9 a10 a11 a12 a13 a14 a15 a16 a17 a18 a19) :
    wL_lawOf_168 post mc ms (nI a) (nI b) (nI c) (nI m) kc ks (n + 1) 1 (nI j) pr so si ed fl qf qs oc a1 a2 a3 a4 a5 a6 a7 a8 a9 a10 a11 a12 a13 a14 a15 a16 a17 a18 a19 :=
  br_f (nI_ge (b := 3) hj (by decide)) (fw_add_c (a := 4 + j) (b := 7) (r := c) (nI_add 4 j) rfl rfl hA (by omega) (by omega) (by omega) (by omega) (by omega) hlt h0 (fun pr' b1 b2 b3 hA' => br_f (by decide) (br_t (nI_add 12 j).symm (nm_r (nI_1 j) (next _ _ _ _ hA')))))
theorem fw_E168 {post : Int32 → St0 → Prop} {mc ms kc ks : Nat} (hpost : post 1 ()) {a b c m : Nat} (ha : a < 10) (hb : b < 4) (hc : c < 10) (hm : m < 6) (hA : fw_Arcs fw_PR1 fw_FR1 fw_TT1 (fw_RM1 a b c) pr a1 a2 a3) {n : Nat} : wL_lawOf_168 post mc ms (nI a) (nI b) (nI c) (nI m) kc ks (n + 1) 1 (nI 3) pr so si ed fl qf qs oc a1 a2 a3 a4 a5 a6 a7 a8 a9 a10 a11 a12 a13 a14 a15 a16 a17 a18 a19 :=
  br_t (by decide) (nm_r (e' := nI (Nat.mul 3 a)) (pk_mul 3 a) (nm_r (e' := nI (Nat.mul 9 b)) (pk_mul 9 b) (nm_r (e' := nI (Nat.mul 3 c)) (pk_mul 3 c) (fw_brmn (P := fun z => wL_lawOf_250 post mc ms (nI a) (nI b) (nI c) (nI m) 1 (nI (Nat.mul 3 a)) (nI (Nat.mul 9 b)) (nI (Nat.mul 3 c)) z kc ks pr so si ed fl qf qs oc a1 a2 a3 a4 a5 a6 a7 a8 a9 a10 a11 a12 a13 a14 a15 a16 a17 a18 a19) (show 9 * b < 65536 by omega) (show 3 * a < 65536 by omega) (fw_L250 hpost ha hb hc hm hA)))))
theorem fw_L47 {post : Int32 → St0 → Prop} {mc ms kc ks : Nat} (hpost : post 1 ()) {a b c m : Nat} (ha : a < 10) (hb : b < 4) (hc : c < 10) (hm : m < 6) (hA : fw_Arcs 0 0 0 0 pr a1 a2 a3) : wL_lawOf_47 post mc ms (nI a) (nI b) (nI c) (nI m) kc ks 4 1 0 pr so si ed fl qf qs oc a1 a2 a3 a4 a5 a6 a7 a8 a9 a10 a11 a12 a13 a14 a15 a16 a17 a18 a19 := by
  refine fw_S47 (i := 0) hpost ha hb hc hm hA (by omega) (by decide +kernel) (by decide +kernel) (fun p0 u0 v0 w0 h0 => ?_)
  refine fw_S47 (i := 1) hpost ha hb hc hm h0 (by omega) (by decide +kernel) (by decide +kernel) (fun p1 u1 v1 w1 h1 => ?_)
  refine fw_S47 (i := 2) hpost ha hb hc hm h1 (by omega) (by decide +kernel) (by decide +kernel) (fun p2 u2 v2 w2 h2 => ?_)
  refine br_t (by decide) ⟨4, ?_⟩
  refine br_f (by decide) ⟨4, ?_⟩
  refine fw_S104 (i := 0) (j := 0) hpost ha hb hc hm h2 (by omega) (by omega) (by decide +kernel) (by decide +kernel) (fun p3 u3 v3 w3 h3 => ?_)
  refine fw_S104 (i := 0) (j := 1) hpost ha hb hc hm h3 (by omega) (by omega) (by decide +kernel) (by decide +kernel) (fun p4 u4 v4 w4 h4 => ?_)
  refine fw_S104 (i := 0) (j := 2) hpost ha hb hc hm h4 (by omega) (by omega) (by decide +kernel) (by decide +kernel) (fun p5 u5 v5 w5 h5 => ?_)
  refine br_t (by decide) (nm_r (e' := nI 1) (by decide) ?_)
  refine br_f (by decide) ⟨4, ?_⟩
  refine fw_S104 (i := 1) (j := 0) hpost ha hb hc hm h5 (by omega) (by omega) (by decide +kernel) (by decide +kernel) (fun p6 u6 v6 w6 h6 => ?_)
  refine fw_S104 (i := 1) (j := 1) hpost ha hb hc hm h6 (by omega) (by omega) (by decide +kernel) (by decide +kernel) (fun p7 u7 v7 w7 h7 => ?_)
  refine fw_S104 (i := 1) (j := 2) hpost ha hb hc hm h7 (by omega) (by omega) (by decide +kernel) (by decide +kernel) (fun p8 u8 v8 w8 h8 => ?_)
  refine br_t (by decide) (nm_r (e' := nI 2) (by decide) ?_)
  refine br_f (by decide) ⟨4, ?_⟩
  refine fw_S104 (i := 2) (j := 0) hpost ha hb hc hm h8 (by omega) (by omega) (by decide +kernel) (by decide +kernel) (fun p9 u9 v9 w9 h9 => ?_)
  refine fw_S104 (i := 2) (j := 1) hpost ha hb hc hm h9 (by omega) (by omega) (by decide +kernel) (by decide +kernel) (fun p10 u10 v10 w10 h10 => ?_)
  refine fw_S104 (i := 2) (j := 2) hpost ha hb hc hm h10 (by omega) (by omega) (by decide +kernel) (by decide +kernel) (fun p11 u11 v11 w11 h11 => ?_)
  refine br_t (by decide) (nm_r (e' := nI 3) (by decide) ?_)
  refine br_t (by decide) ⟨4, ?_⟩
  refine fw_S168 (j := 0) hpost ha hb hc hm h11 (by omega) (by decide +kernel) (by decide +kernel) (fun p12 u12 v12 w12 h12 => ?_)
  refine fw_S168 (j := 1) hpost ha hb hc hm h12 (by omega) (by decide +kernel) (by decide +kernel) (fun p13 u13 v13 w13 h13 => ?_)
  refine fw_S168 (j := 2) hpost ha hb hc hm h13 (by omega) (by decide +kernel) (by decide +kernel) (fun p14 u14 v14 w14 h14 => ?_)
  have h : fw_Arcs fw_PR1 fw_FR1 fw_TT1 (fw_RM1 a b c) p14 u14 v14 w14 := by
    have e := fw_eq (fw_k_rm1 ha hb hc)
    rw [← fw_k_pr1, ← fw_k_fr1, ← fw_k_tt1, ← e]
    exact h14
  exact fw_E168 hpost ha hb hc hm h
end
theorem fw_cell {post : Int32 → Prop} {L j : Nat} {xs : Nat → Int32} {x : Int32} (ex : x = nI j) (hL : L ≤ 4) (hj : j < 65536) (h : ∀ y, post y) : wpL_cellAt post L xs () x := by
  subst ex
  by_cases g : L ≤ j
  · exact br_t (nI_le g (by omega)) (h 0)
  · exact br_f (nI_ge (by omega) (by omega)) ⟨fw_in (by omega), h _⟩
theorem fw_rem {x : Int32} (d : Nat) (h0 : 0 < d) (hd : d < 2 ^ 31) : ∃ r, r < d ∧ (x &&& 65535) - (x &&& 65535) / nI d * nI d = nI r := by
  obtain ⟨j, hj, e⟩ := pk_andE x (m := 65535) 16 (by decide)
  refine ⟨j % d, Nat.mod_lt _ h0, ?_⟩
  rw [e]
  exact pk_rem (Nat.lt_of_lt_of_le hj (by decide)) h0 hd
theorem fw_lawOf {post : Int32 → St0 → Prop} (hpost : post 1 ()) (p0 p1 p2 p3 : Int32) : wpL_lawOf post 190 3040 () p0 p1 p2 p3 := by
  refine ⟨by decide, by decide, 100, 1000, by decide, by decide, ?_⟩
  refine ⟨by decide, by decide, by decide, by decide, by decide, by decide, by decide, by decide, by decide, by decide, by decide, by decide, by decide, by decide, by decide, by decide, by decide, by decide, by decide, by decide, by decide, by decide, by decide, by decide, by decide, by decide, by decide, by decide, by decide, by decide, by decide, by decide, by decide, by decide, by decide, by decide, by decide, by decide, ?_⟩
  obtain ⟨a, ha, ea⟩ := fw_rem (x := p0) 10 (by decide) (by decide)
  obtain ⟨b, hb, eb⟩ := pk_andE p1 (m := 3) 2 (by decide)
  obtain ⟨c, hc, ec⟩ := fw_rem (x := p2) 10 (by decide) (by decide)
  obtain ⟨m, hm, em⟩ := fw_rem (x := p3) 6 (by decide) (by decide)
  exact ⟨by decide, nm_r ea (nm_r eb ⟨by decide, nm_r ec ⟨by decide, nm_r em ⟨4, fw_L47 hpost ha hb hc hm ⟨by decide, rfl, fun k _ h => absurd (fw_b_0 k) h⟩⟩⟩⟩)⟩
theorem i_vc (xs : Nat → Int32) (L : Nat) (hL : L ≤ 4) : wpL_law (fun r => r = 1) L xs :=
  fw_cell (j := 0) rfl hL (by omega) (fun p0 => fw_cell (j := 1) rfl hL (by omega) (fun p1 => fw_cell (j := 2) rfl hL (by omega) (fun p2 => fw_cell (j := 3) rfl hL (by omega) (fun p3 => ⟨190, 3040, by decide, by decide, fw_lawOf rfl p0 p1 p2 p3⟩))))
end
