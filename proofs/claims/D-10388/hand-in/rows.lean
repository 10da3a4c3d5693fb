section
theorem td_b8 : ∀ k, k < 128 → (nI k).toInt8.toInt32 = nI k := by decide +kernel
theorem td_vb {k : Nat} (h : k < 128) : vp_nar .byte (nI k) = nI k := by rw [vp_nar_byte, td_b8 k h]
def td_bf (x : Int32) : Prop := x.toInt8.toInt32 = x
theorem td_bfN {k : Nat} (h : k < 128) : td_bf (nI k) := td_b8 k h
theorem td_bfm : td_bf (-1) := by unfold td_bf; decide +kernel
theorem td_bfv {x : Int32} (h : td_bf x) : vp_nar .byte x = x := by rw [vp_nar_byte]; exact h
theorem td_bfu {f : Nat → Int32} {k N : Nat} {x : Int32} (h : ∀ j, j < N → td_bf (f j)) (hx : td_bf x) : ∀ j, j < N → td_bf (upd f k x j) := by
  intro j hj
  by_cases e : j = k
  · rw [e, pk_us]; exact hx
  · rw [pk_un e]; exact h j hj
/-! index shapes -/
theorem td_i3 (n l : Nat) : (3 : Int32) * nI n + nI l = nI (3 * n + l) := by
  show nI 3 * nI n + nI l = _
  rw [pk_mul, nI_add]
theorem td_i49 (n l : Nat) : (49 : Int32) * nI n + nI l = nI (49 * n + l) := by
  show nI 49 * nI n + nI l = _
  rw [pk_mul, nI_add]
theorem td_i16 (n : Nat) : (16 : Int32) * nI n = nI (16 * n) := by
  show nI 16 * nI n = _
  rw [pk_mul]
theorem td_i16c (n l : Nat) : (16 : Int32) * nI n + nI l = nI (16 * n + l) := by
  show nI 16 * nI n + nI l = _
  rw [pk_mul, nI_add]
theorem td_i164 (p i j : Nat) : ((16 : Int32) * nI p + 4 * nI i) + nI j = nI (16 * p + 4 * i + j) := by
  show (nI 16 * nI p + nI 4 * nI i) + nI j = _
  rw [pk_mul, pk_mul, nI_add, nI_add]
theorem td_i12 (n l : Nat) : (12 : Int32) * nI n + nI l = nI (12 * n + l) := by
  show nI 12 * nI n + nI l = _
  rw [pk_mul, nI_add]
theorem td_i12b (y i x j : Nat) : ((12 : Int32) * (nI y + nI i) + nI x) + nI j = nI (12 * (y + i) + x + j) := by
  show (nI 12 * (nI y + nI i) + nI x) + nI j = _
  rw [nI_add, pk_mul, nI_add, nI_add]
theorem td_i4 (n l : Nat) : (4 : Int32) * nI n + nI l = nI (4 * n + l) := by
  show nI 4 * nI n + nI l = _
  rw [pk_mul, nI_add]
theorem td_i5 (n : Nat) : (5 : Int32) * nI n = nI (5 * n) := by
  show nI 5 * nI n = _
  rw [pk_mul]
theorem td_i5c (n l : Nat) : (5 : Int32) * nI n + nI l = nI (5 * n + l) := by
  show nI 5 * nI n + nI l = _
  rw [pk_mul, nI_add]
theorem td_sub1 {a b : Nat} (h : b ≤ a + 1) : nI a - nI b + 1 = nI (a + 1 - b) := by
  rw [← pk_sub h, ← nI_1, Int32.sub_eq_add_neg, Int32.sub_eq_add_neg, Int32.add_assoc, Int32.add_assoc, Int32.add_comm (-nI b) 1]
/-! reads and stores -/
theorem td_rd {f : Nat → Int32} {x v : Int32} {k : Nat} (hx : x = nI k) (hk : k < 1000) (hv : f k = v) : f x.toNatClampNeg = v := by
  rw [pk_cl k hx (by omega)]; exact hv
theorem td_up {f : Nat → Int32} {x v v' : Int32} {k : Nat} (hx : x = nI k) (hk : k < 1000) (hv : v = v') : upd f x.toNatClampNeg v = upd f k v' := by
  rw [pk_cl k hx (by omega), hv]
def td_uN (F : Nat → Nat) (k v : Nat) : Nat → Nat := fun j => if j = k then v else F j
theorem td_uNs {F : Nat → Nat} {k v : Nat} : td_uN F k v k = v := if_pos rfl
theorem td_uNn {F : Nat → Nat} {k v j : Nat} (h : j ≠ k) : td_uN F k v j = F j := if_neg h
theorem td_uN_keep {F : Nat → Nat} {k v j : Nat} (hk : F k = 0) (hj : F j ≠ 0) : td_uN F k v j = F j := td_uNn (fun (e : j = k) => hj (by rw [e]; exact hk))
def td_pic (f : Nat → Int32) (F : Nat → Nat) (n : Nat) : Prop := ∀ j, j < n → f j = nI (F j)
theorem td_pic_u {f : Nat → Int32} {F : Nat → Nat} {n k v : Nat} (h : td_pic f F n) : td_pic (upd f k (nI v)) (td_uN F k v) n := by
  intro j hj
  by_cases e : j = k
  · rw [e, pk_us, td_uNs]
  · rw [pk_un e, td_uNn e]; exact h j hj
theorem td_pic_rd {f : Nat → Int32} {F : Nat → Nat} {n k : Nat} {x : Int32} (h : td_pic f F n) (hx : x = nI k) (hk : k < n) (hn : n ≤ 1000) : f x.toNatClampNeg = nI (F k) := td_rd hx (by omega) (h k hk)
theorem td_uN_lt {F : Nat → Nat} {k v b : Nat} (h : ∀ j, F j < b) (hv : v < b) : ∀ j, td_uN F k v j < b := by
  intro j
  by_cases e : j = k
  · rw [e, td_uNs]; exact hv
  · rw [td_uNn e]; exact h j
/-! bits (rows of BITS.to-paste, renamed) -/
def td_bt (x : Int32) (i : Nat) : Bool := x.toBitVec.getLsbD i
theorem td_bext {x y : Int32} (h : ∀ i, i < 32 → td_bt x i = td_bt y i) : x = y := Int32.toBitVec_inj.mp (BitVec.eq_of_getLsbD_eq (fun i hi => h i hi))
theorem td_bor (x y : Int32) (i : Nat) : td_bt (x ||| y) i = (td_bt x i || td_bt y i) := by unfold td_bt; rw [Int32.toBitVec_or, BitVec.getLsbD_or]
theorem td_band (x y : Int32) (i : Nat) : td_bt (x &&& y) i = (td_bt x i && td_bt y i) := by unfold td_bt; rw [Int32.toBitVec_and, BitVec.getLsbD_and]
theorem td_b0 (i : Nat) : td_bt 0 i = false := BitVec.getLsbD_zero
theorem td_b1 : ∀ i, i < 32 → td_bt 1 i = decide (i = 0) := by decide +kernel
theorem td_sl : ∀ n, n < 32 → ((nI n &&& 31).toBitVec.smod 32).toNat = n := by decide +kernel
theorem td_bshl (n : Nat) (hn : n < 32) (x : Int32) {i : Nat} (hi : i < 32) : td_bt (x <<< (nI n &&& 31)) i = (decide (n ≤ i) && td_bt x (i - n)) := by
  unfold td_bt
  rw [Int32.toBitVec_shiftLeft]
  show (x.toBitVec <<< ((nI n &&& 31).toBitVec.smod 32).toNat).getLsbD i = _
  rw [td_sl n hn, BitVec.getLsbD_shiftLeft]
  rcases Nat.lt_or_ge i n with h | h
  · simp [h, Nat.not_le.mpr h]
  · simp [hi, h, Nat.not_lt.mpr h]
theorem td_bsshr (n : Nat) (hn : n < 32) (x : Int32) {i : Nat} (hi : i < 32) : td_bt (x >>> (nI n &&& 31)) i = if n + i < 32 then td_bt x (n + i) else td_bt x 31 := by
  unfold td_bt
  rw [Int32.toBitVec_shiftRight]
  show (x.toBitVec.sshiftRight ((nI n &&& 31).toBitVec.smod 32).toNat).getLsbD i = _
  rw [td_sl n hn, BitVec.getLsbD_sshiftRight, BitVec.msb_eq_getLsbD_last]
  simp [hi]
theorem td_bit (x : Int32) {b : Nat} (hb : b < 32) : ((x >>> (nI b &&& 31)) &&& 1) = nI (if td_bt x b = true then 1 else 0) := by
  apply td_bext
  intro i hi
  rw [td_band, td_b1 i hi, td_bsshr b hb x hi]
  by_cases e : i = 0
  · subst e
    rw [if_pos (by omega), Nat.add_zero]
    cases td_bt x b
    · decide
    · decide
  · rw [decide_eq_false e, Bool.and_false]
    cases td_bt x b
    · exact (td_b0 i).symm
    · have := td_b1 i hi
      rw [decide_eq_false e] at this
      exact this.symm
theorem td_bset (x : Int32) {s b : Nat} (hs : s < 32) (hb : b < 32) : td_bt (x ||| ((1 : Int32) <<< (nI s &&& 31))) b = (td_bt x b || decide (b = s)) := by
  rw [td_bor, td_bshl s hs 1 hb, td_b1 (b - s) (by omega)]
  by_cases e : b = s
  · rw [decide_eq_true e, decide_eq_true (show s ≤ b by omega), decide_eq_true (show b - s = 0 by omega)]
    rfl
  · rw [decide_eq_false e]
    by_cases g : s ≤ b
    · rw [decide_eq_false (show ¬ b - s = 0 by omega), Bool.and_false]
    · rw [decide_eq_false g, Bool.false_and]
theorem td_sm1 : (-1 : Int32) &&& 31 = nI 31 &&& 31 := by decide +kernel
end
section
def td_T (B : Nat → Nat) (c : Nat) : Prop :=
  1 ≤ c ∧ (∀ j, B j < c) ∧ (∀ j, 3 * c ≤ j → B j = 0) ∧ (∀ i j, B i ≠ 0 → B i = B j → i = j) ∧
  (∀ a b l, a < 3 → b < 3 → l < 3 → B a ≠ 0 → B (3 * B a + b) ≠ 0 → B (3 * B (3 * B a + b) + l) = 0)
theorem td_T_0 : td_T (fun _ => 0) 1 := ⟨by omega, fun _ => Nat.zero_lt_one, fun _ _ => rfl, fun _ _ h _ => absurd rfl h, fun _ _ _ _ _ _ h _ => absurd rfl h⟩
theorem td_T_add {B : Nat → Nat} {c k : Nat} (h : td_T B c) (hk : B k = 0) (hc : k < 3 * c) (hd : k < 3 ∨ ∃ a b, a < 3 ∧ b < 3 ∧ B a ≠ 0 ∧ k = 3 * B a + b) : td_T (td_uN B k c) (c + 1) := by
  obtain ⟨h1, h2, h3, h4, h5⟩ := h
  refine ⟨by omega, fun j => ?_, fun j hj => ?_, fun i j hi he => ?_, fun a b l ha hb hl hA hB => ?_⟩
  · by_cases e : j = k
    · rw [e, td_uNs]; omega
    · rw [td_uNn e]; have := h2 j; omega
  · rw [td_uNn (by omega)]; exact h3 j (by omega)
  · by_cases ei : i = k
    · by_cases ej : j = k
      · omega
      · rw [ei, td_uNs, td_uNn ej] at he; have := h2 j; omega
    · rw [td_uNn ei] at he hi
      by_cases ej : j = k
      · rw [ej, td_uNs] at he; have := h2 i; omega
      · rw [td_uNn ej] at he; exact h4 i j hi he
  · rcases hd with hd | ⟨a0, b0, ha0, hb0, hA0, hk0⟩
    · by_cases e : a = k
      · rw [e, td_uNs, td_uNn (by omega)] at hB
        exact absurd (h3 _ (by omega)) hB
      · rw [td_uNn e] at hA hB ⊢
        have hp : 1 ≤ B a := by omega
        rw [td_uNn (show 3 * B a + b ≠ k by omega)] at hB ⊢
        have hq : 1 ≤ B (3 * B a + b) := by omega
        rw [td_uNn (by omega)]
        exact h5 a b l ha hb hl hA hB
    · have e : a ≠ k := by omega
      rw [td_uNn e] at hA hB ⊢
      by_cases e2 : 3 * B a + b = k
      · rw [e2, td_uNs, td_uNn (by omega)]
        exact h3 _ (by omega)
      · rw [td_uNn e2] at hB ⊢
        have e3 : B (3 * B a + b) ≠ B a0 := fun z => by
          have := h4 _ _ hB z
          have : 1 ≤ B a := by omega
          omega
        rw [td_uNn (by omega)]
        exact h5 a b l ha hb hl hA hB
/-- the node of a row's word -/
def td_nd (B : Nat → Nat) (w l0 l1 : Nat) : Nat := if w = 1 then B l0 else B (3 * B l0 + l1)
theorem td_nd_keep {B : Nat → Nat} {w l0 l1 k c : Nat} (hk : B k = 0) (h0 : B l0 ≠ 0) (h1 : td_nd B w l0 l1 ≠ 0) : td_nd (td_uN B k c) w l0 l1 = td_nd B w l0 l1 := by
  unfold td_nd at h1 ⊢
  by_cases e : w = 1
  · rw [if_pos e, if_pos e]; exact td_uN_keep hk h0
  · rw [if_neg e] at h1
    rw [if_neg e, if_neg e, td_uN_keep hk h0]
    exact td_uN_keep hk h1
/-- what stands of a row (p, i) once it is in: its node, and its number -/
def td_Q (pw P B : Nat → Nat) (E R : Nat → Int32) (p i : Nat) : Prop :=
  p < 3 ∧ i < 4 ∧ B (P (16 * p + 4 * i)) ≠ 0 ∧ td_nd B (pw p) (P (16 * p + 4 * i)) (P (16 * p + 4 * i + 1)) ≠ 0 ∧
  0 ≤ E (49 * p + td_nd B (pw p) (P (16 * p + 4 * i)) (P (16 * p + 4 * i + 1))) ∧
  R (4 * p + i) = E (49 * p + td_nd B (pw p) (P (16 * p + 4 * i)) (P (16 * p + 4 * i + 1)))
def td_R (pw P : Nat → Nat) (D : Nat → Nat → Prop) (B : Nat → Nat) (c : Nat) (E R : Nat → Int32) : Prop :=
  td_T B c ∧ (∀ j, j < 147 → td_bf (E j)) ∧ (∀ p m, p < 3 → c ≤ m → m < 49 → ¬ 0 ≤ E (49 * p + m)) ∧
  (∀ p a b, p < 3 → pw p = 1 → a < 3 → b < 3 → B a ≠ 0 → B (3 * B a + b) ≠ 0 → ¬ 0 ≤ E (49 * p + B (3 * B a + b))) ∧
  (∀ p i, D p i → td_Q pw P B E R p i)
theorem td_R_grow {pw P B : Nat → Nat} {D : Nat → Nat → Prop} {c k : Nat} {E R : Nat → Int32} (h : td_R pw P D B c E R) (hk : B k = 0) (hc : k < 3 * c) (hc2 : c < 49)
    (hd : k < 3 ∨ ∃ a b, a < 3 ∧ b < 3 ∧ B a ≠ 0 ∧ k = 3 * B a + b) : td_R pw P D (td_uN B k c) (c + 1) E R := by
  obtain ⟨hT, hb, h1, h2, h3⟩ := h
  refine ⟨td_T_add hT hk hc hd, hb, fun p m hp hm hm2 => h1 p m hp (by omega) hm2, fun p a b hp hw ha hb' hA hB => ?_, fun p i hD => ?_⟩
  · by_cases e2 : 3 * td_uN B k c a + b = k
    · rw [e2, td_uNs]; exact h1 p c hp (Nat.le_refl c) hc2
    · rw [td_uNn e2] at hB ⊢
      by_cases e : a = k
      · rw [e, td_uNs] at hB
        exact absurd (hT.2.2.1 _ (by omega)) hB
      · rw [td_uNn e] at hA hB ⊢
        exact h2 p a b hp hw ha hb' hA hB
  · obtain ⟨q1, q2, q3, q4, q5, q6⟩ := h3 p i hD
    have e := td_nd_keep (c := c) hk q3 q4
    unfold td_Q
    rw [e, td_uN_keep hk q3]
    exact ⟨q1, q2, q3, q4, q5, q6⟩
theorem td_R_put {pw P B : Nat → Nat} {D : Nat → Nat → Prop} {c p i nd : Nat} {E E' R : Nat → Int32} (h : td_R pw P D B c E R) (hc2 : c < 49) (hp : p < 3) (hi : i < 4)
    (hP : P (16 * p + 4 * i) < 3) (hB : B (P (16 * p + 4 * i)) ≠ 0) (hn : nd = td_nd B (pw p) (P (16 * p + 4 * i)) (P (16 * p + 4 * i + 1))) (hn0 : nd ≠ 0)
    (hE : (0 ≤ E (49 * p + nd) ∧ E' = E) ∨ (¬ 0 ≤ E (49 * p + nd) ∧ E' = upd E (49 * p + nd) (nI i))) :
    td_R pw P (fun p' i' => D p' i' ∨ (p' = p ∧ i' = i)) B c E' (upd R (4 * p + i) (E' (49 * p + nd))) := by
  obtain ⟨hT, hb, h1, h2, h3⟩ := h
  have hlt : nd < c := by
    rw [hn]; unfold td_nd
    by_cases e : pw p = 1
    · rw [if_pos e]; exact hT.2.1 _
    · rw [if_neg e]; exact hT.2.1 _
  have hpos : 0 ≤ E' (49 * p + nd) := by
    rcases hE with ⟨q, rfl⟩ | ⟨q, rfl⟩
    · exact q
    · rw [pk_us]; exact nI_pos' (by omega)
  have hoff : ∀ j, j ≠ 49 * p + nd → E' j = E j := by
    intro j hj
    rcases hE with ⟨q, rfl⟩ | ⟨q, rfl⟩
    · rfl
    · exact pk_un hj
  have hkeep : ∀ j, 0 ≤ E j → E' j = E j := by
    intro j hj
    rcases hE with ⟨q, rfl⟩ | ⟨q, rfl⟩
    · rfl
    · exact pk_un (fun (e : j = 49 * p + nd) => q (by rw [← e]; exact hj))
  refine ⟨hT, ?_, fun p' m hp' hm hm2 => ?_, fun p' a b hp' hw ha hb' hA hBB => ?_, fun p' i' hD => ?_⟩
  · rcases hE with ⟨q, rfl⟩ | ⟨q, rfl⟩
    · exact hb
    · exact td_bfu hb (td_bfN (by omega))
  · rw [hoff _ (by omega)]; exact h1 p' m hp' hm hm2
  · have hlt2 := hT.2.1 (3 * B a + b)
    by_cases e : 49 * p' + B (3 * B a + b) = 49 * p + nd
    · have ep : p' = p := by omega
      have em : B (3 * B a + b) = nd := by omega
      subst ep
      rw [hn] at em
      unfold td_nd at em
      rw [if_pos hw] at em
      have := hT.2.2.2.1 _ _ hBB em
      omega
    · rw [hoff _ e]; exact h2 p' a b hp' hw ha hb' hA hBB
  · by_cases e : p' = p ∧ i' = i
    · obtain ⟨rfl, rfl⟩ := e
      unfold td_Q
      rw [← hn, pk_us]
      exact ⟨hp, hi, hB, hn0, hpos, rfl⟩
    · rcases hD with hD | hD
      · obtain ⟨q1, q2, q3, q4, q5, q6⟩ := h3 p' i' hD
        unfold td_Q
        rw [hkeep _ q5, pk_un (by omega)]
        exact ⟨q1, q2, q3, q4, q5, q6⟩
      · exact absurd hD e
end
section
theorem td_R_step {pw P B B' : Nat → Nat} {D : Nat → Nat → Prop} {c c' k : Nat} {E R : Nat → Int32} (h : td_R pw P D B c E R) (hc : k < 3 * c) (hc2 : c < 49)
    (hd : k < 3 ∨ ∃ a b, a < 3 ∧ b < 3 ∧ B a ≠ 0 ∧ k = 3 * B a + b)
    (hx : (B k ≠ 0 ∧ B' = B ∧ c' = c) ∨ (B k = 0 ∧ B' = td_uN B k c ∧ c' = c + 1)) :
    td_R pw P D B' c' E R ∧ B' k ≠ 0 ∧ c' ≤ c + 1 ∧ (∀ j, B j ≠ 0 → B' j = B j) := by
  rcases hx with ⟨q, rfl, rfl⟩ | ⟨q, rfl, rfl⟩
  · exact ⟨h, q, by omega, fun _ _ => rfl⟩
  · refine ⟨td_R_grow h q hc hc2 hd, ?_, by omega, fun j hj => td_uN_keep q hj⟩
    rw [td_uNs]
    have := h.1.1
    omega
theorem td_R_mono {pw P B : Nat → Nat} {D D' : Nat → Nat → Prop} {c : Nat} {E R : Nat → Int32} (h : td_R pw P D B c E R) (hD : ∀ p i, D' p i → D p i) : td_R pw P D' B c E R :=
  ⟨h.1, h.2.1, h.2.2.1, h.2.2.2.1, fun p i q => h.2.2.2.2 p i (hD p i q)⟩
section
variable {post : St2 → Prop} {fw fh fc fs : Int32} {a1 a2 a3 a4 a5 a6 a7 a8 a9 a10 a11 a12 : Nat → Int32}
theorem td_ar_step {n p i j nd c w k : Nat} {P B : Nat → Nat} (hp : p < 3) (hi : i < 4) (hj : j < w) (hw : w ≤ 4) (h2 : a2 p = nI w) (h4 : td_pic a4 P 48) (h5 : td_pic a5 B 147)
    (hnd : nd < 49) (hl : P (16 * p + 4 * i + j) < 3) (hc : c < 49) (hB : ∀ j, B j < 49) (ha : k = 3 * nd + P (16 * p + 4 * i + j))
    (H : ∀ (B' : Nat → Nat) (c' : Nat) (b5 : Nat → Int32), td_pic b5 B' 147 → ((B k ≠ 0 ∧ B' = B ∧ c' = c) ∨ (B k = 0 ∧ B' = td_uN B k c ∧ c' = c + 1)) → wX_addRow_5 post (nI p) (nI i) fw fh fs n (nI (B' k)) (nI (j + 1)) (nI c') a1 a2 a3 a4 b5 a6 a7 a8 a9 a10 a11 a12) :
    wX_addRow_5 post (nI p) (nI i) fw fh fs (n + 1) (nI nd) (nI j) (nI c) a1 a2 a3 a4 a5 a6 a7 a8 a9 a10 a11 a12 := by
  have ei := td_i164 p i j
  have e4 : a4 (((16 : Int32) * nI p + 4 * nI i) + nI j).toNatClampNeg = nI (P (16 * p + 4 * i + j)) := td_pic_rd h4 ei (by omega) (by omega)
  have ex : (3 : Int32) * nI nd + a4 (((16 : Int32) * nI p + 4 * nI i) + nI j).toNatClampNeg = nI k := by rw [e4, td_i3, ha]
  have hk : k < 147 := by omega
  have e5 : a5 (nI k).toNatClampNeg = nI (B k) := td_pic_rd h5 rfl hk (by omega)
  have hBk := hB k
  unfold wX_addRow_5
  refine ⟨pk_in p 3 hp, pk_le w j (fun z => absurd z (by omega)) (fun _ => ⟨pk_in (16 * p + 4 * i + j) 48 (by omega) ei, nm_r ex ⟨pk_in k 147 hk, ?_⟩⟩) (td_rd rfl (by omega) h2)⟩
  refine pk_eq (B k) 0 (fun z => ⟨pk_in k 147 hk, nm_r (td_up rfl (by omega) (td_b8 c (by omega))) (nm_r (nI_1 c) ⟨pk_in k 147 hk, nm_r (e' := nI c) (td_rd rfl (by omega) pk_us) (nm_r (nI_1 j) ?_)⟩)⟩) (fun z => ⟨pk_in k 147 hk, nm_r e5 (nm_r (nI_1 j) ?_)⟩) e5
  · have := H (td_uN B k c) (c + 1) _ (td_pic_u h5) (Or.inr ⟨z, rfl, rfl⟩)
    rw [td_uNs] at this
    exact this
  · exact H B c a5 h5 (Or.inl ⟨z, rfl, rfl⟩)
theorem td_ar_fin {n p i nd c w : Nat} (hp : p < 3) (hi : i < 4) (hw : w ≤ 4) (h2 : a2 p = nI w) (hnd : nd < 49) (hbf : ∀ j, j < 147 → td_bf (a8 j))
    (H : ∀ b8 : Nat → Int32, ((0 ≤ a8 (49 * p + nd) ∧ b8 = a8) ∨ (¬ 0 ≤ a8 (49 * p + nd) ∧ b8 = upd a8 (49 * p + nd) (nI i))) → post (fw, fh, nI c, fs, a1, a2, a3, a4, a5, a6, a7, b8, upd a9 (4 * p + i) (b8 (49 * p + nd)), a10, a11, a12)) :
    wX_addRow_5 post (nI p) (nI i) fw fh fs (n + 1) (nI nd) (nI w) (nI c) a1 a2 a3 a4 a5 a6 a7 a8 a9 a10 a11 a12 := by
  have hs : 49 * p + nd < 147 := by omega
  have e8 : ∀ f : Nat → Int32, f (nI (49 * p + nd)).toNatClampNeg = f (49 * p + nd) := fun f => td_rd rfl (by omega) rfl
  have fin : ∀ b8 : Nat → Int32, td_bf (b8 (49 * p + nd)) → ((0 ≤ a8 (49 * p + nd) ∧ b8 = a8) ∨ (¬ 0 ≤ a8 (49 * p + nd) ∧ b8 = upd a8 (49 * p + nd) (nI i))) → wX_addRow_111 post (nI p) (nI i) (nI (49 * p + nd)) fw fh (nI c) fs a1 a2 a3 a4 a5 a6 a7 b8 a9 a10 a11 a12 := by
    intro b8 hb h
    unfold wX_addRow_111
    exact ⟨pk_in _ 147 hs, pk_in (4 * p + i) 12 (by omega) (td_i4 p i), nm_r (td_up (td_i4 p i) (by omega) (by rw [e8 b8, td_bfv hb])) (H b8 h)⟩
  unfold wX_addRow_5
  refine ⟨pk_in p 3 hp, pk_le w w (fun _ => nm_r (td_i49 p nd) ⟨pk_in _ 147 hs, ?_⟩) (fun z => absurd z (by omega)) (td_rd rfl (by omega) h2)⟩
  rw [e8 a8]
  refine br_c (fun z => fin a8 (hbf _ hs) (Or.inl ⟨z, rfl⟩)) (fun z => ⟨pk_in _ 147 hs, nm_r (td_up rfl (by omega) (td_b8 i (by omega))) (fin _ ?_ (Or.inr ⟨z, rfl⟩))⟩)
  rw [pk_us]; exact td_bfN (by omega)
theorem td_addRow {p i c : Nat} {pw P B : Nat → Nat} {D : Nat → Nat → Prop} (hp : p < 3) (hi : i < 4) (hpw : 1 ≤ pw p ∧ pw p ≤ 2) (h2 : td_pic a2 pw 3) (h4 : td_pic a4 P 48) (hP : ∀ j, P j < 3)
    (h5 : td_pic a5 B 147) (hR : td_R pw P D B c a8 a9) (hc : c ≤ 40)
    (H : ∀ (B' : Nat → Nat) (c' : Nat) (b5 b8 b9 : Nat → Int32), c' ≤ c + 2 → td_pic b5 B' 147 → td_R pw P (fun p' i' => D p' i' ∨ (p' = p ∧ i' = i)) B' c' b8 b9 → post (fw, fh, nI c', fs, a1, a2, a3, a4, b5, a6, a7, b8, b9, a10, a11, a12)) :
    wpX_addRow post (fw, fh, nI c, fs, a1, a2, a3, a4, a5, a6, a7, a8, a9, a10, a11, a12) (nI p) (nI i) := by
  show ∃ fu5 : Nat, wX_addRow_5 post (nI p) (nI i) fw fh fs fu5 0 0 (nI c) a1 a2 a3 a4 a5 a6 a7 a8 a9 a10 a11 a12
  have hl0 := hP (16 * p + 4 * i)
  have hl1 := hP (16 * p + 4 * i + 1)
  have hT := hR.1
  have h1c := hT.1
  refine ⟨3, td_ar_step (n := 2) (j := 0) (nd := 0) (k := P (16 * p + 4 * i)) hp hi (show 0 < pw p by omega) (by omega) (h2 p hp) h4 h5 (by omega) hl0 (by omega) (fun j => by have := hT.2.1 j; omega) (by rw [Nat.add_zero]; omega) (fun B1 c1 b5 hb5 hx => ?_)⟩
  obtain ⟨hR1, hn1, hc1, hk1⟩ := td_R_step hR (show P (16 * p + 4 * i) < 3 * c by omega) (by omega) (Or.inl hl0) hx
  have hT1 := hR1.1
  have hlt1 := hT1.2.1 (P (16 * p + 4 * i))
  by_cases e : pw p = 1
  · have h2' : a2 p = nI 1 := by rw [h2 p hp, e]
    refine td_ar_fin (n := 1) (w := 1) (nd := B1 (P (16 * p + 4 * i))) hp hi (by omega) h2' (by omega) hR1.2.1 (fun b8 hE => ?_)
    refine H B1 c1 b5 b8 _ (by omega) hb5 (td_R_put hR1 (by omega) hp hi hl0 hn1 ?_ hn1 hE)
    unfold td_nd
    rw [if_pos e]
  · have h2' : a2 p = nI 2 := by rw [h2 p hp, show pw p = 2 by omega]
    refine td_ar_step (n := 1) (j := 1) (nd := B1 (P (16 * p + 4 * i))) (k := 3 * B1 (P (16 * p + 4 * i)) + P (16 * p + 4 * i + 1)) hp hi (show 1 < 2 by omega) (by omega) h2' h4 hb5 (by omega) hl1 (by omega) (fun j => by have := hT1.2.1 j; omega) rfl (fun B2 c2 b5 hb5 hx2 => ?_)
    obtain ⟨hR2, hn2, hc2, hk2⟩ := td_R_step hR1 (show 3 * B1 (P (16 * p + 4 * i)) + P (16 * p + 4 * i + 1) < 3 * c1 by omega) (by omega) (Or.inr ⟨_, _, hl0, hl1, hn1, rfl⟩) hx2
    have hT2 := hR2.1
    have hlt2 := hT2.2.1 (3 * B1 (P (16 * p + 4 * i)) + P (16 * p + 4 * i + 1))
    have ek := hk2 _ hn1
    refine td_ar_fin (n := 0) (w := 2) (nd := B2 (3 * B1 (P (16 * p + 4 * i)) + P (16 * p + 4 * i + 1))) hp hi (by omega) h2' (by omega) hR2.2.1 (fun b8 hE => ?_)
    refine H B2 c2 b5 b8 _ (by omega) hb5 (td_R_put hR2 (by omega) hp hi hl0 (by rw [ek]; exact hn1) ?_ hn2 hE)
    unfold td_nd
    rw [if_neg e, ek]
/-- the rows that are in ahead of row i of pattern p -/
def td_Dn (ph : Nat → Nat) (p i : Nat) : Nat → Nat → Prop := fun p' i' => (p' < p ∧ i' < ph p') ∨ (p' = p ∧ i' < i)
def td_Bt (pw P ph : Nat → Nat) (p i : Nat) (s : Int32 × (Nat → Int32) × (Nat → Int32) × (Nat → Int32)) : Prop :=
  ∃ (B : Nat → Nat) (c : Nat), s.1 = nI c ∧ c ≤ 1 + 4 * p + 2 * i ∧ td_pic s.2.1 B 147 ∧ td_R pw P (td_Dn ph p i) B c s.2.2.1 s.2.2.2
theorem td_ba43 {J : (Int32 → Int32 → Int32 → Int32 → Int32 → (Nat → Int32) → (Nat → Int32) → (Nat → Int32) → (Nat → Int32) → (Nat → Int32) → (Nat → Int32) → (Nat → Int32) → (Nat → Int32) → (Nat → Int32) → (Nat → Int32) → (Nat → Int32) → (Nat → Int32) → Prop)}
    {p : Nat} {pw P ph : Nat → Nat} (hp : p < 3) (hpw : ∀ p, 1 ≤ pw p ∧ pw p ≤ 2) (hph : ∀ p, 1 ≤ ph p ∧ ph p ≤ 2) (h2 : td_pic a2 pw 3) (h3 : td_pic a3 ph 3) (h4 : td_pic a4 P 48) (hP : ∀ j, P j < 3)
    (h0 : td_Bt pw P ph p 0 (fc, a5, a8, a9))
    (H : ∀ s, td_Bt pw P ph (p + 1) 0 s → J (nI (p + 1)) fw fh s.1 fs a1 a2 a3 a4 s.2.1 a6 a7 s.2.2.1 s.2.2.2 a10 a11 a12) :
    ∃ n, wX_buildAutomaton_43 post J (nI p) n 0 fw fh fc fs a1 a2 a3 a4 a5 a6 a7 a8 a9 a10 a11 a12 := by
  have hphp := hph p
  refine pk_loop (σ := Int32 × (Nat → Int32) × (Nat → Int32) × (Nat → Int32)) (fun n i s => wX_buildAutomaton_43 post J (nI p) n (nI i) fw fh s.1 fs a1 a2 a3 a4 s.2.1 a6 a7 s.2.2.1 s.2.2.2 a10 a11 a12) (fun i s => td_Bt pw P ph p i s) (ph p) 0 (fc, a5, a8, a9) (by omega) h0 ?_ ?_
  · intro n s h
    refine And.intro (pk_in p 3 hp) (pk_le (ph p) (ph p) (fun _ => nm_r (nI_1 p) (H s ?_)) (fun z => absurd z (by omega)) (td_rd rfl (by omega) (h3 p hp)))
    obtain ⟨B, c, e, hc, h5, hR⟩ := h
    refine ⟨B, c, e, by omega, h5, td_R_mono hR (fun p' i' q => ?_)⟩
    unfold td_Dn at q ⊢
    rcases q with ⟨q1, q2⟩ | ⟨q1, q2⟩
    · by_cases z : p' = p
      · subst z; exact Or.inr ⟨rfl, q2⟩
      · exact Or.inl ⟨by omega, q2⟩
    · omega
  · intro n i s hi h hw
    refine And.intro (pk_in p 3 hp) (pk_le (ph p) i (fun z => absurd z (by omega)) (fun _ => ?_) (td_rd rfl (by omega) (h3 p hp)))
    obtain ⟨s1, s5, s8, s9⟩ := s
    obtain ⟨B, c, e, hc, h5, hR⟩ := h
    dsimp only at e h5 hR
    subst e
    refine td_addRow hp (by omega) (hpw p) h2 h4 hP h5 hR (by omega) (fun B' c' b5 b8 b9 hc' h5' hR' => ?_)
    refine nm_r (nI_1 i) (hw (nI c', b5, b8, b9) ⟨B', c', rfl, by omega, h5', td_R_mono hR' (fun p' i' q => ?_)⟩)
    unfold td_Dn at q ⊢
    rcases q with q | ⟨q1, q2⟩
    · exact Or.inl (Or.inl q)
    · by_cases z : i' = i
      · exact Or.inr ⟨q1, z⟩
      · exact Or.inl (Or.inr ⟨q1, by omega⟩)
theorem td_ba36 {pw P ph : Nat → Nat} (hpw : ∀ p, 1 ≤ pw p ∧ pw p ≤ 2) (hph : ∀ p, 1 ≤ ph p ∧ ph p ≤ 2) (h2 : td_pic a2 pw 3) (h3 : td_pic a3 ph 3) (h4 : td_pic a4 P 48) (hP : ∀ j, P j < 3)
    (h0 : td_Bt pw P ph 0 0 (fc, a5, a8, a9))
    (H : ∀ (post' : St2 → Prop) (c : Nat) (B : Nat → Nat) (b5 b8 b9 : Nat → Int32), c ≤ 13 → td_pic b5 B 147 → td_R pw P (td_Dn ph 3 0) B c b8 b9 → (∀ g : St2, post g → post' g) → wpX_linkNodes post' (fw, fh, nI c, fs, a1, a2, a3, a4, b5, a6, a7, b8, b9, a10, a11, a12)) :
    ∃ n, wX_buildAutomaton_36 post n 0 fw fh fc fs a1 a2 a3 a4 a5 a6 a7 a8 a9 a10 a11 a12 := by
  refine pk_loop (σ := Int32 × (Nat → Int32) × (Nat → Int32) × (Nat → Int32)) (fun n i s => wX_buildAutomaton_36 post n (nI i) fw fh s.1 fs a1 a2 a3 a4 s.2.1 a6 a7 s.2.2.1 s.2.2.2 a10 a11 a12) (fun i s => td_Bt pw P ph i 0 s) 3 0 (fc, a5, a8, a9) (by omega) h0 ?_ ?_
  · intro n s h
    obtain ⟨s1, s5, s8, s9⟩ := s
    obtain ⟨B, c, e, hc, h5, hR⟩ := h
    dsimp only at e h5 hR
    subst e
    exact pk_le 3 3 (fun _ => H _ c B s5 s8 s9 (by omega) h5 hR (fun g hg => by obtain ⟨_, _, _, _, _, _, _, _, _, _, _, _, _, _, _, _⟩ := g; exact hg)) (fun z => absurd z (by omega))
  · intro n p s hp h hw
    obtain ⟨s1, s5, s8, s9⟩ := s
    exact pk_le 3 p (fun z => absurd z (by omega)) (fun _ => td_ba43 hp hpw hph h2 h3 h4 hP h hw)
theorem td_buildAutomaton {pw P ph : Nat → Nat} (hpw : ∀ p, 1 ≤ pw p ∧ pw p ≤ 2) (hph : ∀ p, 1 ≤ ph p ∧ ph p ≤ 2) (h2 : td_pic a2 pw 3) (h3 : td_pic a3 ph 3) (h4 : td_pic a4 P 48) (hP : ∀ j, P j < 3)
    (H : ∀ (post' : St2 → Prop) (c : Nat) (B : Nat → Nat) (b5 b8 b9 : Nat → Int32), c ≤ 13 → td_pic b5 B 147 → td_R pw P (td_Dn ph 3 0) B c b8 b9 → (∀ g : St2, post g → post' g) → wpX_linkNodes post' (fw, fh, nI c, fs, a1, a2, a3, a4, b5, a6, a7, b8, b9, a10, a11, a12)) :
    wpX_buildAutomaton post (fw, fh, fc, fs, a1, a2, a3, a4, a5, a6, a7, a8, a9, a10, a11, a12) := by
  show ∃ fu7 : Nat, wX_buildAutomaton_7 post fw fh 1 fs fu7 0 a1 a2 a3 a4 a5 a6 a7 a8 a9 a10 a11 a12
  refine pk_loop (σ := (Nat → Int32) × (Nat → Int32)) (fun n i s => wX_buildAutomaton_7 post fw fh 1 fs n (nI i) a1 a2 a3 a4 s.1 a6 a7 s.2 a9 a10 a11 a12) (fun i s => ∀ j, j < i → s.1 j = 0 ∧ s.2 j = -1) 147 0 (a5, a8) (by omega) (fun j hj => absurd hj (by omega)) ?_ ?_
  · intro n s h
    obtain ⟨s5, s8⟩ := s
    dsimp only at h
    refine pk_le 147 147 (fun _ => td_ba36 (fc := 1) hpw hph h2 h3 h4 hP ?_ H) (fun z => absurd z (by omega))
    refine ⟨fun _ => 0, 1, rfl, by omega, fun j hj => (h j hj).1, td_T_0, fun j hj => ?_, fun p m hp hm hm2 => ?_, fun p a b _ _ _ _ q => absurd rfl q, fun p i q => ?_⟩
    · show td_bf (s8 j)
      rw [(h j hj).2]; exact td_bfm
    · show ¬ 0 ≤ s8 (49 * p + m)
      rw [(h (49 * p + m) (by omega)).2]; decide
    · unfold td_Dn at q
      omega
  · intro n i s hi h hw
    refine pk_le 147 i (fun z => absurd z (by omega)) (fun _ => ⟨pk_in i 147 hi, nm_r (td_up rfl (by omega) rfl) ⟨pk_in i 147 hi, nm_r (td_up rfl (by omega) rfl) (nm_r (nI_1 i) (hw (upd s.1 i 0, upd s.2 i (-1)) (fun j hj => ?_)))⟩⟩)
    dsimp only
    by_cases e : j = i
    · rw [e, pk_us, pk_us]; exact ⟨rfl, rfl⟩
    · rw [pk_un e, pk_un e]; exact h j (by omega)
end
end
section
/-! the nodes of a trie of depth two by a code: 0..2 a letter, 3 + 3 a + b two letters -/
def td_cn (B : Nat → Nat) (k : Nat) : Nat := if k < 3 then B k else if B ((k - 3) / 3) = 0 then 0 else B (3 * B ((k - 3) / 3) + (k - 3) % 3)
def td_lt (k : Nat) : Nat := if k < 3 then k else (k - 3) % 3
def td_fb (B : Nat → Nat) (k : Nat) : Nat := if k < 3 then 0 else B ((k - 3) % 3)
def td_rk (B : Nat → Nat) : Nat → Nat
  | 0 => 0
  | k + 1 => td_rk B k + (if td_cn B k = 0 then 0 else 1)
def td_N (B : Nat → Nat) (v l : Nat) : Nat := if B (3 * B v + l) = 0 then B l else B (3 * B v + l)
def td_K (k l : Nat) : Nat := min (3 + 3 * k + l) 12
theorem td_cn1 {B : Nat → Nat} {k : Nat} (h : k < 3) : td_cn B k = B k := if_pos h
theorem td_cn2 {B : Nat → Nat} {k : Nat} (h : ¬ k < 3) (hB : B ((k - 3) / 3) ≠ 0) : td_cn B k = B (3 * B ((k - 3) / 3) + (k - 3) % 3) := by
  unfold td_cn; rw [if_neg h, if_neg hB]
theorem td_cn0 {B : Nat → Nat} {k : Nat} (h : ¬ k < 3) (hB : td_cn B k ≠ 0) : B ((k - 3) / 3) ≠ 0 := by
  intro z
  apply hB
  unfold td_cn; rw [if_neg h, if_pos z]
theorem td_cnab {B : Nat → Nat} {a b : Nat} (hb : b < 3) (hB : B a ≠ 0) : td_cn B (3 + 3 * a + b) = B (3 * B a + b) := by
  have e1 : (3 + 3 * a + b - 3) / 3 = a := by omega
  have e2 : (3 + 3 * a + b - 3) % 3 = b := by omega
  rw [td_cn2 (by omega) (by rw [e1]; exact hB), e1, e2]
theorem td_cn_lt {B : Nat → Nat} {c : Nat} (h : td_T B c) (k : Nat) : td_cn B k < c := by
  have h1 := h.1
  unfold td_cn
  by_cases e : k < 3
  · rw [if_pos e]; exact h.2.1 _
  · rw [if_neg e]
    by_cases e2 : B ((k - 3) / 3) = 0
    · rw [if_pos e2]; omega
    · rw [if_neg e2]; exact h.2.1 _
theorem td_cn_inj {B : Nat → Nat} {c k k' : Nat} (h : td_T B c) (h0 : td_cn B k ≠ 0) (he : td_cn B k = td_cn B k') : k = k' := by
  have h0' : td_cn B k' ≠ 0 := by rw [← he]; exact h0
  have inj := h.2.2.2.1
  by_cases e : k < 3
  · by_cases e' : k' < 3
    · rw [td_cn1 e, td_cn1 e'] at he
      rw [td_cn1 e] at h0
      exact inj _ _ h0 he
    · have q := td_cn0 e' h0'
      rw [td_cn1 e, td_cn2 e' q] at he
      rw [td_cn1 e] at h0
      have := inj _ _ h0 he
      omega
  · have q := td_cn0 e h0
    by_cases e' : k' < 3
    · rw [td_cn1 e', td_cn2 e q] at he
      rw [td_cn2 e q] at h0
      have := inj _ _ h0 he
      omega
    · have q' := td_cn0 e' h0'
      rw [td_cn2 e q, td_cn2 e' q'] at he
      rw [td_cn2 e q] at h0
      have g := inj _ _ h0 he
      have g2 : B ((k - 3) / 3) = B ((k' - 3) / 3) := by omega
      have g3 := inj _ _ q g2
      omega
theorem td_rk_le (B : Nat → Nat) (k : Nat) : td_rk B k ≤ k := by
  induction k with
  | zero => exact Nat.le_refl 0
  | succ k ih =>
    show td_rk B k + (if td_cn B k = 0 then 0 else 1) ≤ k + 1
    by_cases e : td_cn B k = 0
    · rw [if_pos e]; omega
    · rw [if_neg e]; omega
theorem td_rk_s0 {B : Nat → Nat} {k : Nat} (h : td_cn B k = 0) : td_rk B (k + 1) = td_rk B k := by
  show td_rk B k + (if td_cn B k = 0 then 0 else 1) = _
  rw [if_pos h]; rfl
theorem td_rk_s1 {B : Nat → Nat} {k : Nat} (h : td_cn B k ≠ 0) : td_rk B (k + 1) = td_rk B k + 1 := by
  show td_rk B k + (if td_cn B k = 0 then 0 else 1) = _
  rw [if_neg h]
theorem td_rk_mono {B : Nat → Nat} {k : Nat} : ∀ d, td_rk B k ≤ td_rk B (k + d) := by
  intro d
  induction d with
  | zero => exact Nat.le_refl _
  | succ d ih =>
    refine Nat.le_trans ih ?_
    show td_rk B (k + d) ≤ td_rk B (k + d) + (if td_cn B (k + d) = 0 then 0 else 1)
    omega
theorem td_rk_lt {B : Nat → Nat} {k k' : Nat} (h : k < k') (h0 : td_cn B k ≠ 0) : td_rk B k < td_rk B k' := by
  have := td_rk_mono (B := B) (k := k + 1) (k' - (k + 1))
  rw [show k + 1 + (k' - (k + 1)) = k' by omega, td_rk_s1 h0] at this
  omega
theorem td_N_lt {B : Nat → Nat} {c : Nat} (h : td_T B c) (v l : Nat) : td_N B v l < c := by
  unfold td_N
  by_cases e : B (3 * B v + l) = 0
  · rw [if_pos e]; exact h.2.1 _
  · rw [if_neg e]; exact h.2.1 _
theorem td_N0 {B : Nat → Nat} {v l : Nat} (h : B v = 0) : td_N B v l = B l := by
  unfold td_N
  rw [h, show 3 * 0 + l = l by omega]
  by_cases e : B l = 0
  · rw [if_pos e]
  · rw [if_neg e]
theorem td_fb_ne {B : Nat → Nat} {c k : Nat} (h : td_T B c) (h0 : td_cn B k ≠ 0) : td_fb B k ≠ td_cn B k := by
  unfold td_fb
  by_cases e : k < 3
  · rw [if_pos e]; omega
  · rw [if_neg e]
    intro z
    have q := td_cn0 e h0
    rw [td_cn2 e q] at z h0
    have := h.2.2.2.1 _ _ h0 z.symm
    omega
theorem td_fb_lt {B : Nat → Nat} {c : Nat} (h : td_T B c) (k : Nat) : td_fb B k < c := by
  have h1 := h.1
  unfold td_fb
  by_cases e : k < 3
  · rw [if_pos e]; omega
  · rw [if_neg e]; exact h.2.1 _
/-- a node of two letters has no branch of its own -/
theorem td_leaf {B : Nat → Nat} {c k l : Nat} (h : td_T B c) (hk : ¬ k < 3) (hk2 : k < 12) (hl : l < 3) (h0 : td_cn B k ≠ 0) : B (3 * td_cn B k + l) = 0 := by
  have q := td_cn0 hk h0
  rw [td_cn2 hk q] at h0 ⊢
  exact h.2.2.2.2 _ _ l (by omega) (by omega) hl q h0
/-! what stands once the codes below k are linked and those below K are in the queue -/
def td_EI (B0 : Nat → Nat) (E0 : Nat → Int32) (k : Nat) (E : Nat → Int32) : Prop :=
  (∀ j, j < 147 → td_bf (E j)) ∧
  (∀ p m, p < 3 → m < 49 → (∀ k', k' < k → td_cn B0 k' ≠ 0 → m ≠ td_cn B0 k') → E (49 * p + m) = E0 (49 * p + m)) ∧
  (∀ p k', p < 3 → k' < k → td_cn B0 k' ≠ 0 → (0 ≤ E0 (49 * p + td_cn B0 k') → E (49 * p + td_cn B0 k') = E0 (49 * p + td_cn B0 k')) ∧
    (3 ≤ k' → ¬ 0 ≤ E0 (49 * p + td_cn B0 k') → 0 ≤ E0 (49 * p + td_fb B0 k') → E (49 * p + td_cn B0 k') = E0 (49 * p + td_fb B0 k')))
def td_BI (B0 : Nat → Nat) (c k : Nat) (B : Nat → Nat) : Prop :=
  (∀ j, B j < c) ∧
  (∀ j, (∀ k', k' < k → td_cn B0 k' ≠ 0 → j / 3 ≠ td_cn B0 k') → B j = B0 j) ∧
  (∀ k' l, k' < k → td_cn B0 k' ≠ 0 → l < 3 → B (3 * td_cn B0 k' + l) = td_N B0 (td_lt k') l)
def td_QI (B0 : Nat → Nat) (K : Nat) (F Q : Nat → Int32) : Prop :=
  ∀ k', k' < K → td_cn B0 k' ≠ 0 → F (td_cn B0 k') = nI (td_fb B0 k') ∧ Q (td_rk B0 k') = nI (td_cn B0 k')
theorem td_EI_skip {B0 : Nat → Nat} {E0 E : Nat → Int32} {k : Nat} (h : td_EI B0 E0 k E) (h0 : td_cn B0 k = 0) : td_EI B0 E0 (k + 1) E := by
  have key : ∀ k', k' < k + 1 → td_cn B0 k' ≠ 0 → k' < k := by
    intro k' h1 h2
    by_cases e : k' = k
    · rw [e] at h2; exact absurd h0 h2
    · omega
  exact ⟨h.1, fun p m hp hm hq => h.2.1 p m hp hm (fun k' hk' => hq k' (by omega)), fun p k' hp hk' hn => h.2.2 p k' hp (key k' hk' hn) hn⟩
theorem td_BI_skip {B0 B : Nat → Nat} {c k : Nat} (h : td_BI B0 c k B) (h0 : td_cn B0 k = 0) : td_BI B0 c (k + 1) B := by
  have key : ∀ k', k' < k + 1 → td_cn B0 k' ≠ 0 → k' < k := by
    intro k' h1 h2
    by_cases e : k' = k
    · rw [e] at h2; exact absurd h0 h2
    · omega
  exact ⟨h.1, fun j hq => h.2.1 j (fun k' hk' => hq k' (by omega)), fun k' l hk' hn => h.2.2 k' l (key k' hk' hn) hn⟩
theorem td_cn_kids {B0 : Nat → Nat} {k k' : Nat} (h0 : td_cn B0 k = 0) (h1 : td_K k 0 ≤ k') (h2 : k' < td_K (k + 1) 0) : td_cn B0 k' = 0 := by
  unfold td_K at h1 h2
  have hk : k < 3 := by omega
  rw [td_cn1 hk] at h0
  unfold td_cn
  rw [if_neg (by omega), if_pos]
  rw [show (k' - 3) / 3 = k by omega]
  exact h0
theorem td_QI_skip {B0 : Nat → Nat} {F Q : Nat → Int32} {k : Nat} (h : td_QI B0 (td_K k 0) F Q) (h0 : td_cn B0 k = 0) : td_QI B0 (td_K (k + 1) 0) F Q := by
  intro k' hk' hn
  by_cases e : k' < td_K k 0
  · exact h k' e hn
  · exact absurd (td_cn_kids h0 (by omega) hk') hn
theorem td_rk_skip {B0 : Nat → Nat} {k : Nat} (h0 : td_cn B0 k = 0) : ∀ d, td_K k 0 + d ≤ td_K (k + 1) 0 → td_rk B0 (td_K k 0 + d) = td_rk B0 (td_K k 0) := by
  intro d
  induction d with
  | zero => intro _; rfl
  | succ d ih =>
    intro hd
    rw [← ih (by omega)]
    have z : td_cn B0 (td_K k 0 + d) = 0 := td_cn_kids h0 (by omega) (by omega)
    exact td_rk_s0 z
theorem td_rk_skip' {B0 : Nat → Nat} {k : Nat} (h0 : td_cn B0 k = 0) : td_rk B0 (td_K (k + 1) 0) = td_rk B0 (td_K k 0) := by
  have := td_rk_skip h0 (td_K (k + 1) 0 - td_K k 0) (by unfold td_K; omega)
  rw [show td_K k 0 + (td_K (k + 1) 0 - td_K k 0) = td_K (k + 1) 0 by unfold td_K; omega] at this
  exact this
/-- linking a node: the rows that end there -/
theorem td_EI_step {B0 : Nat → Nat} {E0 E E' : Nat → Int32} {c k : Nat} (hT : td_T B0 c) (hc : c < 49) (hk : k < 12) (h0 : td_cn B0 k ≠ 0) (h : td_EI B0 E0 k E) (hb : ∀ j, j < 147 → td_bf (E' j))
    (hs : ∀ p m, p < 3 → m < 49 → m ≠ td_cn B0 k → E' (49 * p + m) = E (49 * p + m))
    (hn : ∀ p, p < 3 → (0 ≤ E (49 * p + td_cn B0 k) → E' (49 * p + td_cn B0 k) = E (49 * p + td_cn B0 k)) ∧ (¬ 0 ≤ E (49 * p + td_cn B0 k) → E' (49 * p + td_cn B0 k) = E (49 * p + td_fb B0 k))) :
    td_EI B0 E0 (k + 1) E' := by
  obtain ⟨_, h1, h2⟩ := h
  refine ⟨hb, fun p m hp hm hq => ?_, fun p k' hp hk' hk0 => ?_⟩
  · rw [hs p m hp hm (hq k (by omega) h0)]
    exact h1 p m hp hm (fun k' hk' => hq k' (by omega))
  · by_cases e : k' = k
    · subst e
      have hlt := td_cn_lt hT k'
      have e0 : E (49 * p + td_cn B0 k') = E0 (49 * p + td_cn B0 k') := h1 p _ hp (by omega) (fun j hj hj0 z => by
        have := td_cn_inj hT hk0 z
        omega)
      have q := hn p hp
      rw [e0] at q
      refine ⟨q.1, fun h3 hneg hpos => ?_⟩
      rw [q.2 hneg]
      have hfl := td_fb_lt hT k'
      by_cases z : td_fb B0 k' = 0
      · rw [z]
        exact h1 p 0 hp (by omega) (fun j _ hj0 => fun w => hj0 w.symm)
      · have ef : td_fb B0 k' = td_cn B0 ((k' - 3) % 3) := by
          rw [td_cn1 (by omega)]; unfold td_fb; rw [if_neg (by omega)]
        rw [ef] at z hpos ⊢
        exact (h2 p _ hp (by omega) z).1 hpos
    · have hlt := td_cn_lt hT k'
      rw [hs p _ hp (by omega) (fun z => e (td_cn_inj hT hk0 z))]
      exact h2 p k' hp (by omega) hk0
/-- what the fallback of a node holds -/
theorem td_other {B0 B : Nat → Nat} {c k l : Nat} (h : td_BI B0 c k B) (hk : k < 12) (hl : l < 3) : B (3 * td_fb B0 k + l) = if k < 3 then B0 l else td_N B0 (td_lt k) l := by
  have root : ∀ l, l < 3 → B l = B0 l := fun l hl => h.2.1 l (fun k' _ hk0 => by omega)
  unfold td_fb td_lt
  by_cases e : k < 3
  · rw [if_pos e, if_pos e, show 3 * 0 + l = l by omega]; exact root l hl
  · rw [if_neg e, if_neg e, if_neg e]
    by_cases z : B0 ((k - 3) % 3) = 0
    · rw [td_N0 z, z, show 3 * 0 + l = l by omega]; exact root l hl
    · have e1 : td_cn B0 ((k - 3) % 3) = B0 ((k - 3) % 3) := td_cn1 (by omega)
      have q := h.2.2 ((k - 3) % 3) l (by omega) (by rw [e1]; exact z) hl
      rw [e1] at q
      rw [q]
      unfold td_lt
      rw [if_pos (by omega)]
/-- midway in the branches of one node -/
def td_MI (B0 Bs : Nat → Nat) (c k l : Nat) (B : Nat → Nat) : Prop :=
  (∀ j, B j < c) ∧ (∀ j, j / 3 ≠ td_cn B0 k → B j = Bs j) ∧ (∀ l', l' < l → B (3 * td_cn B0 k + l') = td_N B0 (td_lt k) l') ∧
  (∀ l', l ≤ l' → l' < 3 → B (3 * td_cn B0 k + l') = B0 (3 * td_cn B0 k + l'))
theorem td_MI_0 {B0 B : Nat → Nat} {c k : Nat} (hT : td_T B0 c) (h0 : td_cn B0 k ≠ 0) (h : td_BI B0 c k B) : td_MI B0 B c k 0 B := by
  refine ⟨h.1, fun _ _ => rfl, fun l' hl' => absurd hl' (by omega), fun l' _ hl' => h.2.1 _ (fun k' hk' hk0 z => ?_)⟩
  rw [show (3 * td_cn B0 k + l') / 3 = td_cn B0 k by omega] at z
  have := td_cn_inj hT h0 z
  omega
theorem td_MI_3 {B0 Bs B : Nat → Nat} {c k : Nat} (hT : td_T B0 c) (h0 : td_cn B0 k ≠ 0) (h : td_BI B0 c k Bs) (hm : td_MI B0 Bs c k 3 B) : td_BI B0 c (k + 1) B := by
  obtain ⟨m1, m2, m3, m4⟩ := hm
  refine ⟨m1, fun j hq => ?_, fun k' l hk' hk0 hl => ?_⟩
  · rw [m2 j (hq k (by omega) h0)]; exact h.2.1 j (fun k' hk' => hq k' (by omega))
  · by_cases e : k' = k
    · subst e; exact m3 l hl
    · rw [m2 _ (by
        rw [show (3 * td_cn B0 k' + l) / 3 = td_cn B0 k' by omega]
        exact fun z => e (td_cn_inj hT hk0 z))]
      exact h.2.2 k' l (by omega) hk0 hl
theorem td_MI_at {B0 Bs B : Nat → Nat} {c k l : Nat} (hT : td_T B0 c) (hk : k < 12) (hl : l < 3) (h0 : td_cn B0 k ≠ 0) (h : td_BI B0 c k Bs) (hm : td_MI B0 Bs c k l B) :
    B (3 * td_cn B0 k + l) = B0 (3 * td_cn B0 k + l) ∧ B (3 * td_fb B0 k + l) = (if k < 3 then B0 l else td_N B0 (td_lt k) l) := by
  refine ⟨hm.2.2.2 l (Nat.le_refl l) hl, ?_⟩
  have e := td_fb_ne hT h0
  rw [hm.2.1 _ (by rw [show (3 * td_fb B0 k + l) / 3 = td_fb B0 k by omega]; exact e)]
  exact td_other h hk hl
/-- no branch: the one of the fallback is taken over -/
theorem td_MI_s0 {B0 Bs B : Nat → Nat} {c k l : Nat} (hT : td_T B0 c) (hk : k < 12) (hl : l < 3) (h0 : td_cn B0 k ≠ 0) (h : td_BI B0 c k Bs) (hm : td_MI B0 Bs c k l B) (hz : B0 (3 * td_cn B0 k + l) = 0) :
    td_MI B0 Bs c k (l + 1) (td_uN B (3 * td_cn B0 k + l) (B (3 * td_fb B0 k + l))) := by
  obtain ⟨_, ho⟩ := td_MI_at hT hk hl h0 h hm
  have hv : B (3 * td_fb B0 k + l) = td_N B0 (td_lt k) l := by
    rw [ho]
    by_cases e : k < 3
    · rw [if_pos e]
      unfold td_N td_lt
      rw [td_cn1 e] at hz
      rw [if_pos e, if_pos hz]
    · rw [if_neg e]
  obtain ⟨m1, m2, m3, m4⟩ := hm
  refine ⟨td_uN_lt m1 (m1 _), fun j hj => ?_, fun l' hl' => ?_, fun l' h1 h2 => ?_⟩
  · rw [td_uNn (by omega)]; exact m2 j hj
  · by_cases e : l' = l
    · subst e; rw [td_uNs]; exact hv
    · rw [td_uNn (by omega)]; exact m3 l' (by omega)
  · rw [td_uNn (by omega)]; exact m4 l' (by omega) h2
theorem td_MI_s1 {B0 Bs B : Nat → Nat} {c k l : Nat} (hT : td_T B0 c) (hk : k < 12) (hl : l < 3) (h0 : td_cn B0 k ≠ 0) (hm : td_MI B0 Bs c k l B) (hz : B0 (3 * td_cn B0 k + l) ≠ 0) :
    k < 3 ∧ td_MI B0 Bs c k (l + 1) B := by
  have hk3 : k < 3 := by
    by_cases e : k < 3
    · exact e
    · exact absurd (td_leaf hT e hk hl h0) hz
  obtain ⟨m1, m2, m3, m4⟩ := hm
  refine ⟨hk3, m1, m2, fun l' hl' => ?_, fun l' h1 h2 => m4 l' (by omega) h2⟩
  by_cases e : l' = l
  · subst e
    rw [m4 l' (Nat.le_refl _) hl]
    unfold td_N td_lt
    rw [td_cn1 hk3] at hz ⊢
    rw [if_pos hk3, if_neg hz]
  · exact m3 l' (by omega)
/-- the queue: a node is put in -/
theorem td_QI_s1 {B0 : Nat → Nat} {F Q : Nat → Int32} {c K : Nat} (hT : td_T B0 c) (h : td_QI B0 K F Q) (h0 : td_cn B0 K ≠ 0) :
    td_QI B0 (K + 1) (upd F (td_cn B0 K) (nI (td_fb B0 K))) (upd Q (td_rk B0 K) (nI (td_cn B0 K))) := by
  intro k' hk' hn
  by_cases e : k' = K
  · subst e; rw [pk_us, pk_us]; exact ⟨rfl, rfl⟩
  · have hr := td_rk_lt (show k' < K by omega) hn
    rw [pk_un (fun z => e (td_cn_inj hT hn z)), pk_un (by omega)]
    exact h k' (by omega) hn
theorem td_QI_s0 {B0 : Nat → Nat} {F Q : Nat → Int32} {K : Nat} (h : td_QI B0 K F Q) (h0 : td_cn B0 K = 0) : td_QI B0 (K + 1) F Q := by
  intro k' hk' hn
  by_cases e : k' = K
  · subst e; exact absurd h0 hn
  · exact h k' (by omega) hn
end
section
theorem td_K_s {k l : Nat} (hk : k < 3) (hl : l < 3) : td_K k l = 3 + 3 * k + l ∧ td_K k (l + 1) = td_K k l + 1 := by
  unfold td_K
  omega
theorem td_K_b {k l : Nat} (hk : ¬ k < 3) : td_K k l = 12 := by
  unfold td_K
  omega
theorem td_K_3 (k : Nat) : td_K k 3 = td_K (k + 1) 0 := by
  unfold td_K
  omega
theorem td_child0 {B0 : Nat → Nat} {F Q : Nat → Int32} {k l : Nat} (hl : l < 3) (h0 : td_cn B0 k ≠ 0) (hz : B0 (3 * td_cn B0 k + l) = 0) (h : td_QI B0 (td_K k l) F Q) :
    td_rk B0 (td_K k (l + 1)) = td_rk B0 (td_K k l) ∧ td_QI B0 (td_K k (l + 1)) F Q := by
  by_cases e : k < 3
  · obtain ⟨e1, e2⟩ := td_K_s e hl
    rw [td_cn1 e] at h0 hz
    have z : td_cn B0 (td_K k l) = 0 := by
      rw [e1, td_cnab hl h0]; exact hz
    rw [e2]
    exact ⟨td_rk_s0 z, td_QI_s0 h z⟩
  · have e1 := td_K_b (l := l) e
    have e2 := td_K_b (l := l + 1) e
    rw [e1] at h
    rw [e1, e2]
    exact ⟨rfl, h⟩
theorem td_child1 {B0 : Nat → Nat} {k l : Nat} (hk : k < 3) (hl : l < 3) (h0 : td_cn B0 k ≠ 0) :
    td_cn B0 (td_K k l) = B0 (3 * td_cn B0 k + l) ∧ td_fb B0 (td_K k l) = B0 l ∧ td_K k (l + 1) = td_K k l + 1 ∧ td_K k l < 12 := by
  obtain ⟨e1, e2⟩ := td_K_s hk hl
  rw [td_cn1 hk] at h0 ⊢
  refine ⟨?_, ?_, e2, by omega⟩
  · rw [e1, td_cnab hl h0]
  · rw [e1]
    unfold td_fb
    rw [if_neg (by omega), show (3 + 3 * k + l - 3) % 3 = l by omega]
section
variable {post : St2 → Prop} {fw fh fc fs : Int32} {a1 a2 a3 a4 a5 a6 a7 a8 a9 a10 a11 a12 : Nat → Int32}
theorem td_inh {p nd s : Nat} (hp : p < 3) (hn : nd < 49) (hs : s < 49) (hb : ∀ j, j < 147 → td_bf (a8 j))
    (H : ∀ b8 : Nat → Int32, ((0 ≤ a8 (49 * p + nd) ∧ b8 = a8) ∨ (¬ 0 ≤ a8 (49 * p + nd) ∧ b8 = upd a8 (49 * p + nd) (a8 (49 * p + s)))) → post (fw, fh, fc, fs, a1, a2, a3, a4, a5, a6, a7, b8, a9, a10, a11, a12)) :
    wpX_inheritRow post (fw, fh, fc, fs, a1, a2, a3, a4, a5, a6, a7, a8, a9, a10, a11, a12) (nI p) (nI nd) (nI s) := by
  have h1 := td_i49 p nd
  have h2 := td_i49 p s
  have e1 : a8 ((49 : Int32) * nI p + nI nd).toNatClampNeg = a8 (49 * p + nd) := td_rd h1 (by omega) rfl
  have e2 : a8 ((49 : Int32) * nI p + nI s).toNatClampNeg = a8 (49 * p + s) := td_rd h2 (by omega) rfl
  refine And.intro (pk_in (49 * p + nd) 147 (by omega) h1) (br_c (fun z => H a8 (Or.inl ⟨?_, rfl⟩)) (fun z => ⟨pk_in (49 * p + s) 147 (by omega) h2, pk_in (49 * p + nd) 147 (by omega) h1, nm_r (td_up h1 (by omega) ?_) (H _ (Or.inr ⟨?_, rfl⟩))⟩))
  · rw [← e1]; exact z
  · rw [e2, td_bfv (hb _ (by omega))]
  · intro w; exact z (by rw [e1]; exact w)
theorem td_l79 {J : (Int32 → Int32 → Int32 → Int32 → Int32 → Int32 → (Nat → Int32) → (Nat → Int32) → (Nat → Int32) → (Nat → Int32) → (Nat → Int32) → (Nat → Int32) → (Nat → Int32) → (Nat → Int32) → (Nat → Int32) → (Nat → Int32) → (Nat → Int32) → (Nat → Int32) → Prop)} {x1 x2 : Int32} {nd s : Nat} (hn : nd < 49) (hs : s < 49) (hns : s ≠ nd) (hb : ∀ j, j < 147 → td_bf (a8 j))
    (H : ∀ b8 : Nat → Int32, (∀ j, j < 147 → td_bf (b8 j)) → (∀ p m, p < 3 → m < 49 → m ≠ nd → b8 (49 * p + m) = a8 (49 * p + m)) →
      (∀ p, p < 3 → (0 ≤ a8 (49 * p + nd) → b8 (49 * p + nd) = a8 (49 * p + nd)) ∧ (¬ 0 ≤ a8 (49 * p + nd) → b8 (49 * p + nd) = a8 (49 * p + s))) →
      ∃ n, wX_linkNodes_103 post J x2 (nI nd) (nI s) fw fh fc fs n x1 0 a1 a2 a3 a4 a5 a6 a7 b8 a9 a10 a11 a12) :
    ∃ n, wX_linkNodes_79 post J x1 x2 (nI nd) (nI s) n 0 fw fh fc fs a1 a2 a3 a4 a5 a6 a7 a8 a9 a10 a11 a12 := by
  refine pk_loop (σ := Nat → Int32) (fun n i t => wX_linkNodes_79 post J x1 x2 (nI nd) (nI s) n (nI i) fw fh fc fs a1 a2 a3 a4 a5 a6 a7 t a9 a10 a11 a12)
    (fun i t => (∀ j, j < 147 → td_bf (t j)) ∧ (∀ p m, p < 3 → m < 49 → (m ≠ nd ∨ i ≤ p) → t (49 * p + m) = a8 (49 * p + m)) ∧
      (∀ p, p < i → (0 ≤ a8 (49 * p + nd) → t (49 * p + nd) = a8 (49 * p + nd)) ∧ (¬ 0 ≤ a8 (49 * p + nd) → t (49 * p + nd) = a8 (49 * p + s)))) 3 0 a8 (by omega)
    ⟨hb, fun _ _ _ _ _ => rfl, fun p hp => absurd hp (by omega)⟩ ?_ ?_
  · intro n t h
    obtain ⟨h1, h2, h3⟩ := h
    exact pk_le 3 3 (fun _ => H t h1 (fun p m hp hm hq => h2 p m hp hm (Or.inl hq)) h3) (fun z => absurd z (by omega))
  · intro n i t hi h hw
    obtain ⟨h1, h2, h3⟩ := h
    refine pk_le 3 i (fun z => absurd z (by omega)) (fun _ => td_inh hi hn hs h1 (fun b8 hx => ?_))
    have hoff : ∀ j, j ≠ 49 * i + nd → b8 j = t j := by
      intro j hj
      rcases hx with ⟨_, rfl⟩ | ⟨_, rfl⟩
      · rfl
      · exact pk_un hj
    refine nm_r (nI_1 i) (hw b8 ⟨?_, fun p m hp hm hq => ?_, fun p hp => ?_⟩)
    · rcases hx with ⟨_, rfl⟩ | ⟨_, rfl⟩
      · exact h1
      · exact td_bfu h1 (h1 _ (by omega))
    · rw [hoff _ (by omega)]; exact h2 p m hp hm (by omega)
    · by_cases e : p = i
      · subst e
        have e1 := h2 p nd hi hn (Or.inr (Nat.le_refl p))
        have e2 := h2 p s hi hs (Or.inl hns)
        rw [e1] at hx
        rcases hx with ⟨q, rfl⟩ | ⟨q, rfl⟩
        · exact ⟨fun _ => e1, fun z => absurd q z⟩
        · refine ⟨fun z => absurd z q, fun _ => ?_⟩
          rw [pk_us]; exact e2
      · rw [hoff _ (by omega)]; exact h3 p (by omega)
theorem td_l103 {J : (Int32 → Int32 → Int32 → Int32 → Int32 → Int32 → (Nat → Int32) → (Nat → Int32) → (Nat → Int32) → (Nat → Int32) → (Nat → Int32) → (Nat → Int32) → (Nat → Int32) → (Nat → Int32) → (Nat → Int32) → (Nat → Int32) → (Nat → Int32) → (Nat → Int32) → Prop)} {k c : Nat} {B0 Bs : Nat → Nat} (hT : td_T B0 c) (hc : c < 49) (hk : k < 12) (h0 : td_cn B0 k ≠ 0) (hB : td_BI B0 c k Bs) (h5 : td_pic a5 Bs 147)
    (hQ : td_QI B0 (td_K k 0) a6 a7)
    (H : ∀ (B : Nat → Nat) (b5 b6 b7 : Nat → Int32), td_pic b5 B 147 → td_BI B0 c (k + 1) B → td_QI B0 (td_K (k + 1) 0) b6 b7 →
      J (nI (td_rk B0 (td_K (k + 1) 0))) (nI (td_rk B0 (k + 1))) fw fh fc fs a1 a2 a3 a4 b5 b6 b7 a8 a9 a10 a11 a12) :
    ∃ n, wX_linkNodes_103 post J (nI (td_rk B0 k)) (nI (td_cn B0 k)) (nI (td_fb B0 k)) fw fh fc fs n (nI (td_rk B0 (td_K k 0))) 0 a1 a2 a3 a4 a5 a6 a7 a8 a9 a10 a11 a12 := by
  have hcn := td_cn_lt hT k
  have hfb := td_fb_lt hT k
  refine pk_loop (σ := Int32 × (Nat → Int32) × (Nat → Int32) × (Nat → Int32)) (fun n i t => wX_linkNodes_103 post J (nI (td_rk B0 k)) (nI (td_cn B0 k)) (nI (td_fb B0 k)) fw fh fc fs n t.1 (nI i) a1 a2 a3 a4 t.2.1 t.2.2.1 t.2.2.2 a8 a9 a10 a11 a12)
    (fun l t => ∃ B : Nat → Nat, t.1 = nI (td_rk B0 (td_K k l)) ∧ td_pic t.2.1 B 147 ∧ td_MI B0 Bs c k l B ∧ td_QI B0 (td_K k l) t.2.2.1 t.2.2.2) 3 0 (_, a5, a6, a7) (by omega)
    ⟨Bs, rfl, h5, td_MI_0 hT h0 hB, hQ⟩ ?_ ?_
  · intro n t h
    obtain ⟨t1, t5, t6, t7⟩ := t
    obtain ⟨B, e, g5, gM, gQ⟩ := h
    dsimp only at e g5 gQ
    rw [td_K_3] at e gQ
    subst e
    exact pk_le 3 3 (fun _ => nm_r (by rw [td_rk_s1 h0, nI_1]) (H B t5 t6 t7 g5 (td_MI_3 hT h0 hB gM) gQ)) (fun z => absurd z (by omega))
  · intro n l t hl h hw
    obtain ⟨t1, t5, t6, t7⟩ := t
    obtain ⟨B, e, g5, gM, gQ⟩ := h
    dsimp only at e g5 gQ
    subst e
    have e1 := td_i3 (td_cn B0 k) l
    have e2 := td_i3 (td_fb B0 k) l
    have r1 : t5 ((3 : Int32) * nI (td_cn B0 k) + nI l).toNatClampNeg = nI (B (3 * td_cn B0 k + l)) := td_pic_rd g5 e1 (by omega) (by omega)
    have r2 : t5 ((3 : Int32) * nI (td_fb B0 k) + nI l).toNatClampNeg = nI (B (3 * td_fb B0 k + l)) := td_pic_rd g5 e2 (by omega) (by omega)
    obtain ⟨m1, m2⟩ := td_MI_at hT hk hl h0 hB gM
    have hb1 := gM.1 (3 * td_cn B0 k + l)
    have hb2 := gM.1 (3 * td_fb B0 k + l)
    have hrk := td_rk_le B0 (td_K k l)
    have hK : td_K k l ≤ 12 := by unfold td_K; omega
    refine pk_le 3 l (fun z => absurd z (by omega)) (fun _ => ⟨pk_in (3 * td_cn B0 k + l) 147 (by omega) e1, nm_r r1 ⟨pk_in (3 * td_fb B0 k + l) 147 (by omega) e2, nm_r r2 ?_⟩⟩)
    refine pk_eq (B (3 * td_cn B0 k + l)) 0 (fun z => ⟨pk_in (3 * td_cn B0 k + l) 147 (by omega) e1, nm_r (td_up e1 (by omega) (td_b8 _ (by omega))) (nm_r (nI_1 l) ?_)⟩)
      (fun z => ⟨pk_in (B (3 * td_cn B0 k + l)) 49 (by omega), nm_r (td_up rfl (by omega) (td_b8 _ (by omega))) ⟨pk_in (td_rk B0 (td_K k l)) 49 (by omega), nm_r (td_up rfl (by omega) (td_b8 _ (by omega))) (nm_r (nI_1 _) (nm_r (nI_1 l) ?_))⟩⟩)
    · rw [m1] at z
      obtain ⟨q1, q2⟩ := td_child0 hl h0 z gQ
      refine hw (nI (td_rk B0 (td_K k l)), upd t5 (3 * td_cn B0 k + l) (nI (B (3 * td_fb B0 k + l))), t6, t7) ⟨_, ?_, td_pic_u g5, td_MI_s0 hT hk hl h0 hB gM z, q2⟩
      rw [q1]
    · rw [m1] at z ⊢
      obtain ⟨hk3, gM'⟩ := td_MI_s1 hT hk hl h0 gM z
      obtain ⟨c1, c2, c3, c4⟩ := td_child1 hk3 hl h0
      have z' : td_cn B0 (td_K k l) ≠ 0 := by rw [c1]; exact z
      rw [m2, if_pos hk3, ← c1, ← c2]
      refine hw (nI (td_rk B0 (td_K k l) + 1), t5, upd t6 (td_cn B0 (td_K k l)) (nI (td_fb B0 (td_K k l))), upd t7 (td_rk B0 (td_K k l)) (nI (td_cn B0 (td_K k l)))) ⟨B, ?_, g5, gM', ?_⟩
      · rw [c3, td_rk_s1 z']
      · rw [c3]; exact td_QI_s1 hT gQ z'
theorem td_l56 {c : Nat} {B0 : Nat → Nat} {E0 : Nat → Int32} (hT : td_T B0 c) (hc : c < 49)
    (H : ∀ (B : Nat → Nat) (b5 b6 b7 b8 : Nat → Int32), td_pic b5 B 147 → td_BI B0 c 12 B → td_EI B0 E0 12 b8 → post (fw, fh, fc, fs, a1, a2, a3, a4, b5, b6, b7, b8, a9, a10, a11, a12)) :
    ∀ d k, k + d = 12 → ∀ n, d < n → ∀ (B : Nat → Nat) (b5 b6 b7 b8 : Nat → Int32), td_pic b5 B 147 → td_BI B0 c k B → td_QI B0 (td_K k 0) b6 b7 → td_EI B0 E0 k b8 →
      wX_linkNodes_56 post n (nI (td_rk B0 (td_K k 0))) (nI (td_rk B0 k)) fw fh fc fs a1 a2 a3 a4 b5 b6 b7 b8 a9 a10 a11 a12 := by
  intro d
  induction d with
  | zero =>
    intro k hk n hn B b5 b6 b7 b8 h5 hB hQ hE
    have e : k = 12 := by omega
    subst e
    obtain ⟨m, rfl⟩ : ∃ m, n = m + 1 := ⟨n - 1, by omega⟩
    have hr := td_rk_le B0 12
    rw [show td_K 12 0 = 12 from rfl]
    exact pk_le (td_rk B0 12) (td_rk B0 12) (fun _ => H B b5 b6 b7 b8 h5 hB hE) (fun z => absurd z (by omega))
  | succ d ih =>
    intro k hk n hn B b5 b6 b7 b8 h5 hB hQ hE
    by_cases h0 : td_cn B0 k = 0
    · have q := ih (k + 1) (by omega) n (by omega) B b5 b6 b7 b8 h5 (td_BI_skip hB h0) (td_QI_skip hQ h0) (td_EI_skip hE h0)
      rw [td_rk_skip' h0, td_rk_s0 h0] at q
      exact q
    · obtain ⟨m, rfl⟩ : ∃ m, n = m + 1 := ⟨n - 1, by omega⟩
      have hKk : k < td_K k 0 := by unfold td_K; omega
      have hK12 : td_K k 0 ≤ 12 := by unfold td_K; omega
      have hr := td_rk_lt hKk h0
      have hr2 := td_rk_le B0 (td_K k 0)
      obtain ⟨q1, q2⟩ := hQ k hKk h0
      have hcn := td_cn_lt hT k
      have hfb := td_fb_lt hT k
      refine pk_le (td_rk B0 (td_K k 0)) (td_rk B0 k) (fun z => absurd z (by omega)) (fun _ => ⟨pk_in (td_rk B0 k) 49 (by omega), nm_r (td_rd rfl (by omega) q2) ⟨pk_in (td_cn B0 k) 49 (by omega), nm_r (td_rd rfl (by omega) q1) ?_⟩⟩)
      refine td_l79 (by omega) (by omega) (td_fb_ne hT h0) hE.1 (fun b8' hb' hs' hn' => ?_)
      exact td_l103 hT hc (by omega) h0 hB h5 hQ (fun B' b5' b6' b7' h5' hB' hQ' => ih (k + 1) (by omega) m (by omega) B' b5' b6' b7' b8' h5' hB' hQ' (td_EI_step hT hc (by omega) h0 hE hb' hs' hn'))
theorem td_linkNodes {c : Nat} {B0 : Nat → Nat} (hT : td_T B0 c) (hc : c < 49) (h5 : td_pic a5 B0 147) (hb : ∀ j, j < 147 → td_bf (a8 j))
    (H : ∀ (B : Nat → Nat) (b5 b6 b7 b8 : Nat → Int32), td_pic b5 B 147 → td_BI B0 c 12 B → td_EI B0 a8 12 b8 → post (fw, fh, fc, fs, a1, a2, a3, a4, b5, b6, b7, b8, a9, a10, a11, a12)) :
    wpX_linkNodes post (fw, fh, fc, fs, a1, a2, a3, a4, a5, a6, a7, a8, a9, a10, a11, a12) := by
  show ∀ a6_2 : Nat → Int32, a6_2 = upd a6 0 0 → ∃ fu11 : Nat, wX_linkNodes_11 post fw fh fc fs fu11 0 0 a1 a2 a3 a4 a5 a6_2 a7 a8 a9 a10 a11 a12
  intro a6_2 _
  refine pk_loop (σ := Int32 × (Nat → Int32) × (Nat → Int32)) (fun n i t => wX_linkNodes_11 post fw fh fc fs n t.1 (nI i) a1 a2 a3 a4 a5 t.2.1 t.2.2 a8 a9 a10 a11 a12)
    (fun l t => t.1 = nI (td_rk B0 l) ∧ td_QI B0 l t.2.1 t.2.2) 3 0 (0, a6_2, a7) (by omega) ⟨rfl, fun k' hk' => absurd hk' (by omega)⟩ ?_ ?_
  · intro n t h
    obtain ⟨t1, t6, t7⟩ := t
    obtain ⟨e, gQ⟩ := h
    dsimp only at e gQ
    subst e
    refine pk_le 3 3 (fun _ => ⟨13, ?_⟩) (fun z => absurd z (by omega))
    exact td_l56 hT hc H 12 0 rfl 13 (by omega) B0 a5 t6 t7 a8 h5 ⟨hT.2.1, fun _ _ => rfl, fun k' l hk' => absurd hk' (by omega)⟩ gQ ⟨hb, fun _ _ _ _ _ => rfl, fun p k' _ hk' => absurd hk' (by omega)⟩
  · intro n l t hl h hw
    obtain ⟨t1, t6, t7⟩ := t
    obtain ⟨e, gQ⟩ := h
    dsimp only at e gQ
    subst e
    have hlt := hT.2.1 l
    have hrk := td_rk_le B0 l
    have ec : td_cn B0 l = B0 l := td_cn1 hl
    have ef : td_fb B0 l = 0 := by unfold td_fb; rw [if_pos hl]
    refine pk_le 3 l (fun z => absurd z (by omega)) (fun _ => ⟨pk_in l 147 (by omega), nm_r (td_pic_rd h5 rfl (by omega) (by omega)) ?_⟩)
    refine pk_eq (B0 l) 0 (fun z => nm_r (nI_1 l) (hw (nI (td_rk B0 l), t6, t7) ⟨?_, ?_⟩)) (fun z => ⟨pk_in (B0 l) 49 (by omega), nm_r (td_up (v' := nI 0) rfl (by omega) rfl) ⟨pk_in (td_rk B0 l) 49 (by omega), nm_r (td_up rfl (by omega) (td_b8 _ (by omega))) (nm_r (nI_1 _) (nm_r (nI_1 l) (hw (nI (td_rk B0 l + 1), upd t6 (B0 l) (nI 0), upd t7 (td_rk B0 l) (nI (B0 l))) ⟨?_, ?_⟩)))⟩⟩)
    · rw [td_rk_s0 (by rw [ec]; exact z)]
    · exact td_QI_s0 gQ (by rw [ec]; exact z)
    · rw [td_rk_s1 (by rw [ec]; exact z)]
    · have := td_QI_s1 hT gQ (by rw [ec]; exact z)
      rw [ec, ef] at this
      exact this
end
/-- what the automaton answers: C the node of a letter, N of two letters -/
def td_AUT (pw ph P B : Nat → Nat) (E R : Nat → Int32) : Prop :=
  (∀ j, B j < 49) ∧ ∃ (C : Nat → Nat) (N : Nat → Nat → Nat), (∀ b, b < 3 → B b = C b) ∧ (∀ v b, v < 3 → b < 3 → B (3 * C v + b) = N v b) ∧ (∀ u v b, u < 3 → v < 3 → b < 3 → B (3 * N u v + b) = N v b) ∧
  (∀ p i, p < 3 → pw p = 1 → i < ph p → E (49 * p + C (P (16 * p + 4 * i))) = R (4 * p + i) ∧ ∀ u, u < 3 → E (49 * p + N u (P (16 * p + 4 * i))) = R (4 * p + i)) ∧
  (∀ p i, p < 3 → pw p = 2 → i < ph p → E (49 * p + N (P (16 * p + 4 * i)) (P (16 * p + 4 * i + 1))) = R (4 * p + i))
theorem td_aut {pw ph P B0 B : Nat → Nat} {E0 E R : Nat → Int32} {c : Nat} (hP : ∀ j, P j < 3) (hc : c < 49) (hR : td_R pw P (td_Dn ph 3 0) B0 c E0 R) (hB : td_BI B0 c 12 B) (hE : td_EI B0 E0 12 E) : td_AUT pw ph P B E R := by
  obtain ⟨hT, _, _, hneg, hQ⟩ := hR
  obtain ⟨b1, b2, b3⟩ := hB
  obtain ⟨_, _, e3⟩ := hE
  have root : ∀ b, b < 3 → B b = B0 b := fun b hb => b2 b (fun k' _ hk0 => by omega)
  have one : ∀ v b, v < 3 → b < 3 → B (3 * B0 v + b) = td_N B0 v b := by
    intro v b hv hb
    by_cases z : B0 v = 0
    · rw [td_N0 z, z, show 3 * 0 + b = b by omega]; exact root b hb
    · have q := b3 v b (by omega) (by rw [td_cn1 hv]; exact z) hb
      rw [td_cn1 hv] at q
      rw [q]; unfold td_lt; rw [if_pos hv]
  have two : ∀ u v b, u < 3 → v < 3 → b < 3 → B (3 * td_N B0 u v + b) = td_N B0 v b := by
    intro u v b hu hv hb
    by_cases z : B0 u = 0
    · rw [td_N0 z]; exact one v b hv hb
    · by_cases z2 : B0 (3 * B0 u + v) = 0
      · have : td_N B0 u v = B0 v := by unfold td_N; rw [if_pos z2]
        rw [this]; exact one v b hv hb
      · have e : td_N B0 u v = B0 (3 * B0 u + v) := by unfold td_N; rw [if_neg z2]
        have ek := td_cnab (B := B0) hv z
        have q := b3 (3 + 3 * u + v) b (by omega) (by rw [ek]; exact z2) hb
        rw [ek] at q
        rw [e, q]; unfold td_lt; rw [if_neg (by omega), show (3 + 3 * u + v - 3) % 3 = v by omega]
  refine ⟨fun j => by have := b1 j; omega, B0, td_N B0, root, one, two, fun p i hp hw hi => ?_, fun p i hp hw hi => ?_⟩
  · obtain ⟨_, _, q3, q4, q5, q6⟩ := hQ p i (Or.inl ⟨hp, hi⟩)
    have hv := hP (16 * p + 4 * i)
    unfold td_nd at q5 q6
    rw [if_pos hw] at q5 q6
    have ev := td_cn1 (B := B0) hv
    have k1 := (e3 p _ hp (show P (16 * p + 4 * i) < 12 by omega) (by rw [ev]; exact q3)).1
    rw [ev] at k1
    have g1 : E (49 * p + B0 (P (16 * p + 4 * i))) = R (4 * p + i) := by rw [k1 q5, q6]
    refine ⟨g1, fun u hu => ?_⟩
    by_cases z : B0 u = 0
    · rw [td_N0 z]; exact g1
    · by_cases z2 : B0 (3 * B0 u + P (16 * p + 4 * i)) = 0
      · have : td_N B0 u (P (16 * p + 4 * i)) = B0 (P (16 * p + 4 * i)) := by unfold td_N; rw [if_pos z2]
        rw [this]; exact g1
      · have e : td_N B0 u (P (16 * p + 4 * i)) = B0 (3 * B0 u + P (16 * p + 4 * i)) := by unfold td_N; rw [if_neg z2]
        have ek := td_cnab (B := B0) hv z
        have k2 := (e3 p (3 + 3 * u + P (16 * p + 4 * i)) hp (by omega) (by rw [ek]; exact z2)).2
        have ef : td_fb B0 (3 + 3 * u + P (16 * p + 4 * i)) = B0 (P (16 * p + 4 * i)) := by
          unfold td_fb; rw [if_neg (by omega), show (3 + 3 * u + P (16 * p + 4 * i) - 3) % 3 = P (16 * p + 4 * i) by omega]
        rw [ek, ef] at k2
        rw [e, k2 (by omega) (hneg p u _ hp hw hu hv z z2) q5, q6]
  · obtain ⟨_, _, q3, q4, q5, q6⟩ := hQ p i (Or.inl ⟨hp, hi⟩)
    have hu := hP (16 * p + 4 * i)
    have hv := hP (16 * p + 4 * i + 1)
    unfold td_nd at q4 q5 q6
    rw [if_neg (by omega)] at q4 q5 q6
    have ek := td_cnab (B := B0) hv q3
    have e : td_N B0 (P (16 * p + 4 * i)) (P (16 * p + 4 * i + 1)) = B0 (3 * B0 (P (16 * p + 4 * i)) + P (16 * p + 4 * i + 1)) := by unfold td_N; rw [if_neg q4]
    have k1 := (e3 p (3 + 3 * P (16 * p + 4 * i) + P (16 * p + 4 * i + 1)) hp (by omega) (by rw [ek]; exact q4)).1
    rw [ek] at k1
    rw [e, k1 q5, q6]
section
variable {post : St2 → Prop} {fw fh fc fs : Int32} {a1 a2 a3 a4 a5 a6 a7 a8 a9 a10 a11 a12 : Nat → Int32}
theorem td_build {pw P ph : Nat → Nat} (hpw : ∀ p, 1 ≤ pw p ∧ pw p ≤ 2) (hph : ∀ p, 1 ≤ ph p ∧ ph p ≤ 2) (h2 : td_pic a2 pw 3) (h3 : td_pic a3 ph 3) (h4 : td_pic a4 P 48) (hP : ∀ j, P j < 3)
    (H : ∀ (fc' : Int32) (B : Nat → Nat) (b5 b6 b7 b8 b9 : Nat → Int32), td_pic b5 B 147 → td_AUT pw ph P B b8 b9 → post (fw, fh, fc', fs, a1, a2, a3, a4, b5, b6, b7, b8, b9, a10, a11, a12)) :
    wpX_buildAutomaton post (fw, fh, fc, fs, a1, a2, a3, a4, a5, a6, a7, a8, a9, a10, a11, a12) := by
  refine td_buildAutomaton hpw hph h2 h3 h4 hP (fun post' c B0 b5 b8 b9 hc h5 hR hp => ?_)
  exact td_linkNodes hR.1 (by omega) h5 hR.2.1 (fun B b5' b6' b7' b8' h5' hB hE => hp _ (H _ B b5' b6' b7' b8' b9 h5' (td_aut hP (by omega) hR hB hE)))
end
end
section
/-! the search, in plain numbers -/
def td_node (B T : Nat → Nat) (y : Nat) : Nat → Nat
  | 0 => 0
  | x + 1 => B (3 * td_node B T y x + T (12 * y + x))
def td_rr (B T : Nat → Nat) (E : Nat → Int32) (p x y : Nat) : Int32 := E (49 * p + td_node B T y (x + 1))
theorem td_node_lt {B T : Nat → Nat} {y : Nat} (h : ∀ j, B j < 49) : ∀ x, td_node B T y x < 49 := by
  intro x
  cases x with
  | zero => show 0 < 49; omega
  | succ x => exact h _
theorem td_row {pw ph P B T : Nat → Nat} {E R : Nat → Int32} (h : td_AUT pw ph P B E R) (hT : ∀ j, T j < 3) {p i x y : Nat} (hp : p < 3) (hpw : 1 ≤ pw p ∧ pw p ≤ 2) (hi : i < ph p)
    (hm : ∀ j, j < pw p → T (12 * y + x + j) = P (16 * p + 4 * i + j)) : td_rr B T E p (x + pw p - 1) y = R (4 * p + i) := by
  obtain ⟨_, C, N, h1, h2, h3, h4, h5⟩ := h
  have n1 : td_node B T y 1 = C (T (12 * y)) := by
    show B (3 * 0 + T (12 * y + 0)) = _
    rw [Nat.add_zero, Nat.mul_zero, Nat.zero_add]
    exact h1 _ (hT _)
  have n2 : ∀ x, td_node B T y (x + 2) = N (T (12 * y + x)) (T (12 * y + (x + 1))) := by
    intro x
    induction x with
    | zero =>
      show B (3 * td_node B T y 1 + T (12 * y + 1)) = _
      rw [n1]
      exact h2 _ _ (hT _) (hT _)
    | succ x ih =>
      show B (3 * td_node B T y (x + 2) + T (12 * y + (x + 2))) = _
      rw [ih]
      exact h3 _ _ _ (hT _) (hT _) (hT _)
  have m0 : T (12 * y + x) = P (16 * p + 4 * i) := hm 0 (by omega)
  by_cases e : pw p = 1
  · obtain ⟨g1, g2⟩ := h4 p i hp e hi
    rw [e, Nat.add_sub_cancel]
    unfold td_rr
    cases x with
    | zero =>
      show E (49 * p + td_node B T y 1) = _
      rw [n1]
      have m0' : T (12 * y) = P (16 * p + 4 * i) := m0
      rw [m0']; exact g1
    | succ x =>
      show E (49 * p + td_node B T y (x + 2)) = _
      rw [n2 x, m0]
      exact g2 _ (hT _)
  · have e2 : pw p = 2 := by omega
    have m1 : T (12 * y + (x + 1)) = P (16 * p + 4 * i + 1) := hm 1 (by omega)
    rw [e2]
    unfold td_rr
    rw [show x + 2 - 1 + 1 = x + 2 by omega, n2 x, m0, m1]
    exact h5 p i hp e2 hi
/-- what stands in the midst of the search: d the rows done in a column -/
def td_S (W : Nat) (pw ph : Nat → Nat) (R : Nat → Int32) (r : Nat → Nat → Nat → Int32) (d : Nat → Nat → Nat) (M : Nat → Nat) (G : Nat → Int32) : Prop :=
  (∀ p x, p < 3 → x < W → M (12 * p + x) ≤ ph p ∧ M (12 * p + x) ≤ d p x ∧ (1 ≤ M (12 * p + x) → r p x (d p x - 1) = R (4 * p + M (12 * p + x) - 1)) ∧ (1 ≤ d p x → r p x (d p x - 1) = R (4 * p) → 1 ≤ M (12 * p + x))) ∧
  (∀ j b, j < 36 → W ≤ b → b < 12 → td_bt (G j) b = false) ∧
  (∀ p x y, p < 3 → x + pw p ≤ W → y + ph p ≤ d p (x + pw p - 1) → (∀ i, i < ph p → r p (x + pw p - 1) (y + i) = R (4 * p + i)) → td_bt (G (12 * p + y)) x = true)
theorem td_S_congr {W : Nat} {pw ph : Nat → Nat} {R : Nat → Int32} {r : Nat → Nat → Nat → Int32} {d d' : Nat → Nat → Nat} {M : Nat → Nat} {G : Nat → Int32} (h : td_S W pw ph R r d M G) (hpw : ∀ p, 1 ≤ pw p ∧ pw p ≤ 2)
    (hd : ∀ p x, p < 3 → x < W → d' p x = d p x) : td_S W pw ph R r d' M G := by
  obtain ⟨h1, h2, h3⟩ := h
  refine ⟨fun p x hp hx => ?_, h2, fun p x y hp hx hy hr => ?_⟩
  · rw [hd p x hp hx]; exact h1 p x hp hx
  · have := hpw p
    rw [hd p _ hp (by omega)] at hy
    exact h3 p x y hp hx hy hr
/-- one step of a column: m the rows met till now, m' with the row v -/
def td_ms (ph : Nat) (R : Nat → Int32) (p : Nat) (v : Int32) (m m' : Nat) : Prop :=
  m' ≤ ph ∧ m' ≤ m + 1 ∧ (1 ≤ m' → v = R (4 * p + m' - 1)) ∧ (v = R (4 * p) → 1 ≤ m') ∧ (ph = 2 → v = R (4 * p + 1) → (m = 1 ∨ (m = 2 ∧ R (4 * p) = R (4 * p + 1))) → m' = 2)
def td_G1 (pw ph p x y m' : Nat) (G : Nat → Int32) : Nat → Int32 :=
  if m' = ph then upd G (12 * p + (y + 1 - ph)) (G (12 * p + (y + 1 - ph)) ||| ((1 : Int32) <<< ((nI x - nI pw + 1) &&& 31))) else G
theorem td_sh {x w : Nat} (hx : x < 12) (hw : 1 ≤ w ∧ w ≤ 2) : ∃ s, s < 32 ∧ (nI x - nI w + 1) &&& 31 = nI s &&& 31 ∧ (w ≤ x + 1 → s = x + 1 - w) ∧ (x + 1 < w → s = 31) := by
  by_cases h : w ≤ x + 1
  · exact ⟨x + 1 - w, by omega, by rw [td_sub1 h], fun _ => rfl, fun z => absurd z (by omega)⟩
  · have e1 : x = 0 := by omega
    have e2 : w = 2 := by omega
    subst e1 e2
    exact ⟨31, by omega, by decide +kernel, fun z => absurd z (by omega), fun _ => rfl⟩
theorem td_S_step {W : Nat} {pw ph : Nat → Nat} {R : Nat → Int32} {r : Nat → Nat → Nat → Int32} {d d' : Nat → Nat → Nat} {M : Nat → Nat} {G : Nat → Int32} {p x y m' : Nat} {v : Int32} (h : td_S W pw ph R r d M G) (hW : W ≤ 12)
    (hpw : ∀ p, 1 ≤ pw p ∧ pw p ≤ 2) (hph : ∀ p, 1 ≤ ph p ∧ ph p ≤ 2) (hp : p < 3) (hx : x < W) (hd : d p x = y) (hv : v = r p x y)
    (hd' : ∀ q z, q < 3 → z < W → d' q z = if q = p ∧ z = x then y + 1 else d q z)
    (hm : td_ms (ph p) R p v (M (12 * p + x)) m') : td_S W pw ph R r d' (td_uN M (12 * p + x) m') (td_G1 (pw p) (ph p) p x y m' G) := by
  obtain ⟨h1, h2, h3⟩ := h
  obtain ⟨m1, m2, m3, m4, m5⟩ := hm
  have hpwp := hpw p
  obtain ⟨s, hs, es, s1, s2⟩ := td_sh (x := x) (w := pw p) (by omega) hpwp
  have hne : ∀ j b, b < 32 → b ≠ s → td_bt (td_G1 (pw p) (ph p) p x y m' G j) b = td_bt (G j) b := by
    intro j b hb hbs
    unfold td_G1
    by_cases e : m' = ph p
    · rw [if_pos e]
      by_cases ej : j = 12 * p + (y + 1 - ph p)
      · rw [ej, pk_us, es, td_bset _ hs hb, decide_eq_false hbs, Bool.or_false]
      · rw [pk_un ej]
    · rw [if_neg e]
  have hmono : ∀ j b, b < 32 → td_bt (G j) b = true → td_bt (td_G1 (pw p) (ph p) p x y m' G j) b = true := by
    intro j b hb hg
    unfold td_G1
    by_cases e : m' = ph p
    · rw [if_pos e]
      by_cases ej : j = 12 * p + (y + 1 - ph p)
      · rw [ej] at hg
        rw [ej, pk_us, es, td_bset _ hs hb, hg, Bool.true_or]
      · rw [pk_un ej]; exact hg
    · rw [if_neg e]; exact hg
  have hset : m' = ph p → td_bt (td_G1 (pw p) (ph p) p x y m' G (12 * p + (y + 1 - ph p))) s = true := by
    intro e
    unfold td_G1
    rw [if_pos e, pk_us, es, td_bset _ hs hs, decide_eq_true rfl, Bool.or_true]
  refine ⟨fun q z hq hz => ?_, fun j b hj hb hb2 => ?_, fun q x0 y0 hq hx0 hy0 hr => ?_⟩
  · by_cases e : q = p ∧ z = x
    · rw [hd' q z hq hz, if_pos e]
      obtain ⟨e1, e2⟩ := e
      rw [e1, e2, td_uNs, Nat.add_sub_cancel, ← hv]
      have := (h1 p x hp hx).2.1
      exact ⟨m1, by omega, m3, fun _ => m4⟩
    · rw [hd' q z hq hz, if_neg e, td_uNn (by omega)]
      exact h1 q z hq hz
  · rw [hne j b (by omega) (by omega)]; exact h2 j b hj hb hb2
  · have hpwq := hpw q
    by_cases e : q = p ∧ x0 + pw q - 1 = x
    · rw [hd' q _ hq (by omega), if_pos e] at hy0
      obtain ⟨e1, ex⟩ := e
      subst e1
      by_cases e2 : y0 + ph q ≤ y
      · exact hmono _ _ (by omega) (h3 q x0 y0 hq hx0 (by rw [ex, hd]; exact e2) hr)
      · rw [ex] at hr
        have hphq := hph q
        have hfull : m' = ph q := by
          by_cases e3 : ph q = 1
          · have r0 : r q x y0 = R (4 * q) := hr 0 (by omega)
            rw [show y0 = y by omega, ← hv] at r0
            have := m4 r0
            omega
          · have r0 : r q x y0 = R (4 * q) := hr 0 (by omega)
            have r1 : r q x (y0 + 1) = R (4 * q + 1) := hr 1 (by omega)
            rw [show y0 + 1 = y by omega, ← hv] at r1
            obtain ⟨c1, c2, c3, c4⟩ := h1 q x hq hx
            rw [hd, show y - 1 = y0 by omega] at c3 c4
            have g := c4 (by omega) r0
            have := m5 (by omega) r1 (by
              by_cases e4 : M (12 * q + x) = 1
              · exact Or.inl e4
              · have e5 : M (12 * q + x) = 2 := by omega
                refine Or.inr ⟨e5, ?_⟩
                have c3' := c3 g
                rw [r0, e5] at c3'
                exact c3')
            omega
        have := hset hfull
        rw [show y + 1 - ph q = y0 by omega, s1 (by omega), show x + 1 - pw q = x0 by omega] at this
        exact this
    · rw [hd' q _ hq (by omega), if_neg e] at hy0
      exact hmono _ _ (by omega) (h3 q x0 y0 hq hx0 hy0 hr)
/-- what the found bits say once the search is done -/
def td_GF (W H : Nat) (T pw ph P : Nat → Nat) (G : Nat → Int32) : Prop :=
  (∀ j b, j < 36 → W ≤ b → b < 12 → td_bt (G j) b = false) ∧
  (∀ p x y, p < 3 → x + pw p ≤ W → y + ph p ≤ H → (∀ i j, i < ph p → j < pw p → T (12 * (y + i) + x + j) = P (16 * p + 4 * i + j)) → td_bt (G (12 * p + y)) x = true)
theorem td_S_GF {W H : Nat} {T pw ph P B M : Nat → Nat} {E R G : Nat → Int32} {d : Nat → Nat → Nat} (hA : td_AUT pw ph P B E R) (hT : ∀ j, T j < 3) (hpw : ∀ p, 1 ≤ pw p ∧ pw p ≤ 2)
    (h : td_S W pw ph R (td_rr B T E) d M G) (hd : ∀ p x, p < 3 → x < W → d p x = H) : td_GF W H T pw ph P G := by
  obtain ⟨_, h2, h3⟩ := h
  refine ⟨h2, fun p x y hp hx hy hm => ?_⟩
  have := hpw p
  exact h3 p x y hp hx (by rw [hd p _ hp (by omega)]; exact hy) (fun i hi => td_row hA hT hp (hpw p) hi (fun j hj => hm i j hi hj))
theorem td_S_0 {W : Nat} {pw ph : Nat → Nat} {R : Nat → Int32} {r : Nat → Nat → Nat → Int32} {d : Nat → Nat → Nat} {M : Nat → Nat} {G : Nat → Int32} (hW : W ≤ 12) (hpw : ∀ p, 1 ≤ pw p ∧ pw p ≤ 2) (hph : ∀ p, 1 ≤ ph p ∧ ph p ≤ 2)
    (hd : ∀ p x, p < 3 → x < W → d p x = 0) (hM : ∀ j, M j = 0) (hG : ∀ j, j < 36 → G j = 0) : td_S W pw ph R r d M G := by
  refine ⟨fun p x hp hx => ?_, fun j b hj _ _ => ?_, fun p x y hp hx hy _ => ?_⟩
  · rw [hM, hd p x hp hx]
    exact ⟨by omega, by omega, fun z => absurd z (by omega), fun z => absurd z (by omega)⟩
  · rw [hG j hj]; exact td_b0 b
  · have := hpw p
    have := hph p
    rw [hd p _ hp (by omega)] at hy
    omega
/-- the rows done in a column, in row y, when the columns below x and in column x the patterns below p are done -/
def td_d (y x p : Nat) : Nat → Nat → Nat := fun q z => if z < x ∨ (z = x ∧ q < p) then y + 1 else y
theorem td_d_at (y x p : Nat) : td_d y x p p x = y := by
  unfold td_d
  rw [if_neg (by omega)]
theorem td_d_s (y x p q z : Nat) : td_d y x (p + 1) q z = if q = p ∧ z = x then y + 1 else td_d y x p q z := by
  unfold td_d
  by_cases e : q = p ∧ z = x
  · rw [if_pos e, if_pos (by omega)]
  · rw [if_neg e]
    by_cases g : z < x ∨ (z = x ∧ q < p)
    · rw [if_pos g, if_pos (by omega)]
    · rw [if_neg g, if_neg (by omega)]
theorem td_d_x {y x q z : Nat} (hq : q < 3) : td_d y (x + 1) 0 q z = td_d y x 3 q z := by
  unfold td_d
  by_cases g : z < x + 1
  · rw [if_pos (by omega), if_pos (by omega)]
  · rw [if_neg (by omega), if_neg (by omega)]
theorem td_d_y {y W q z : Nat} (hz : z < W) : td_d (y + 1) 0 0 q z = td_d y W 0 q z := by
  unfold td_d
  rw [if_neg (by omega), if_pos (by omega)]
theorem td_d_0 (y q z : Nat) : td_d y 0 0 q z = y := by
  unfold td_d
  rw [if_neg (by omega)]
end
section
/-! the search, step by step -/
def td_F (ph : Nat → Nat) (R F : Nat → Int32) (p : Nat) : Prop :=
  F (5 * p + 1) = nI 0 ∧ (ph p = 2 → (R (4 * p) = R (4 * p + 1) → F (5 * p + 2) = nI 1) ∧ (R (4 * p) ≠ R (4 * p + 1) → F (5 * p + 2) = nI 0))
section
variable {post : St2 → Prop} {fw fh fc fs : Int32} {a1 a2 a3 a4 a5 a6 a7 a8 a9 a10 a11 a12 : Nat → Int32}
theorem td_bF {p : Nat} {ph : Nat → Nat} (hp : p < 3) (hph : ∀ p, 1 ≤ ph p ∧ ph p ≤ 2) (h3 : td_pic a3 ph 3)
    (H : ∀ b10 : Nat → Int32, td_F ph a9 b10 p → (∀ j, j < 5 * p ∨ 5 * p + 5 ≤ j → b10 j = a10 j) → post (fw, fh, fc, fs, a1, a2, a3, a4, a5, a6, a7, a8, a9, b10, a11, a12)) : wpX_buildFailure post (fw, fh, fc, fs, a1, a2, a3, a4, a5, a6, a7, a8, a9, a10, a11, a12) (nI p) := by
  have hphp := hph p
  refine nm_r (e' := nI (5 * p)) (td_i5 p) (And.intro (pk_in (5 * p) 15 (by omega)) (nm_r (td_up (k := 5 * p) (v' := nI 0) rfl (by omega) rfl) (And.intro (pk_in (5 * p + 1) 15 (by omega) (nI_1 _)) (nm_r (td_up (k := 5 * p + 1) (v' := nI 0) (nI_1 _) (by omega) rfl) ?_))))
  by_cases e : ph p = 1
  · refine ⟨1, And.intro (pk_in p 3 hp) (pk_le 1 1 (fun _ => H _ ⟨?_, fun z => absurd z (by omega)⟩ (fun j hj => ?_)) (fun z => absurd z (by omega)) (td_rd rfl (by omega) (by rw [h3 p hp, e])))⟩
    · rw [pk_us]
    · rw [pk_un (by omega), pk_un (by omega)]
  · have e2 : ph p = 2 := by omega
    have e3 : a3 (nI p).toNatClampNeg = nI 2 := td_rd rfl (by omega) (by rw [h3 p hp, e2])
    refine ⟨2, And.intro (pk_in p 3 hp) (pk_le 2 1 (fun z => absurd z (by omega)) (fun _ => ⟨1, pk_le 0 0 (fun _ => ?_) (fun z => absurd z (by omega))⟩) e3)⟩
    have i0 : (4 : Int32) * nI p + 0 = nI (4 * p) := td_i4 p 0
    have i1 : (4 : Int32) * nI p + 1 = nI (4 * p + 1) := td_i4 p 1
    have i2 : nI (5 * p) + 1 + 1 = nI (5 * p + 2) := by rw [nI_1, nI_1]
    have r0 : a9 ((4 : Int32) * nI p + 0).toNatClampNeg = a9 (4 * p) := td_rd i0 (by omega) rfl
    have r1 : a9 ((4 : Int32) * nI p + 1).toNatClampNeg = a9 (4 * p + 1) := td_rd i1 (by omega) rfl
    have fin : ∀ m, m ≤ 1 → (a9 (4 * p) = a9 (4 * p + 1) → m = 1) → (a9 (4 * p) ≠ a9 (4 * p + 1) → m = 0) →
        wX_buildFailure_103 post (wX_buildFailure_25 post (nI p) (nI (5 * p)) fw fh fc fs 1) (nI p) (nI (5 * p)) (nI m) 1 fw fh fc fs a1 a2 a3 a4 a5 a6 a7 a8 a9 (upd (upd a10 (5 * p) (nI 0)) (5 * p + 1) (nI 0)) a11 a12 := by
      intro m hm k1 k0
      refine And.intro (pk_in (5 * p + 2) 15 (by omega) i2) (nm_r (td_up i2 (by omega) (td_b8 m (by omega))) (nm_r (e' := nI 2) rfl (And.intro (pk_in p 3 hp) (pk_le 2 2 (fun _ => H _ ⟨?_, fun _ => ⟨fun z => ?_, fun z => ?_⟩⟩ (fun j hj => ?_)) (fun z => absurd z (by omega)) e3))))
      · rw [pk_un (by omega), pk_us]
      · rw [pk_us, k1 z]
      · rw [pk_us, k0 z]
      · rw [pk_un (by omega), pk_un (by omega), pk_un (by omega)]
    refine And.intro (pk_in (4 * p) 12 (by omega) i0) (And.intro (pk_in (4 * p + 1) 12 (by omega) i1) (br_c (fun z => nm_r (e' := nI 1) rfl (fin 1 (by omega) (fun _ => rfl) (fun g => ?_))) (fun z => fin 0 (by omega) (fun g => ?_) (fun _ => rfl))))
    · rw [r0, r1] at z; exact absurd z g
    · rw [r0, r1] at z; exact absurd g z
section
variable {p x y : Nat} {pw ph M : Nat → Nat} {v : Int32}
theorem td_a97 {m' : Nat} (hp : p < 3) (hx : x < 12) (hy : y < 12) (hph : ∀ p, 1 ≤ ph p ∧ ph p ≤ 2) (h2 : td_pic a2 pw 3) (h3 : td_pic a3 ph 3) (hMy : M (12 * p + x) ≤ y) (hm : td_ms (ph p) a9 p v (M (12 * p + x)) m')
    (H : ∀ m', td_ms (ph p) a9 p v (M (12 * p + x)) m' → post (fw, fh, fc, fs, a1, a2, a3, a4, a5, a6, a7, a8, a9, a10, td_G1 (pw p) (ph p) p x y m' a11, upd a12 (12 * p + x) (nI m'))) :
    wX_advance_97 post (nI p) (nI x) (nI y) (nI (12 * p + x)) (nI m') fw fh fc fs a1 a2 a3 a4 a5 a6 a7 a8 a9 a10 a11 a12 := by
  have hphp := hph p
  have hH := H m' hm
  obtain ⟨m1, m2, m3, m4, m5⟩ := hm
  have e3 : a3 (nI p).toNatClampNeg = nI (ph p) := td_rd rfl (by omega) (h3 p hp)
  have e2 : a2 (nI p).toNatClampNeg = nI (pw p) := td_rd rfl (by omega) (h2 p hp)
  have ei : (12 : Int32) * nI p + nI y - nI m' + 1 = nI (12 * p + (y + 1 - m')) := by
    rw [td_i12, td_sub1 (by omega), show 12 * p + y + 1 - m' = 12 * p + (y + 1 - m') by omega]
  have hi : 12 * p + (y + 1 - m') < 36 ∨ m' = 0 := by omega
  refine And.intro (pk_in (12 * p + x) 36 (by omega)) (nm_r (td_up rfl (by omega) (td_b8 m' (by omega))) (And.intro (pk_in p 3 hp) (pk_eq m' (ph p) (fun z => ?_) (fun z => ?_) rfl e3)))
  · refine ⟨pk_in _ 36 (by omega) ei, pk_in p 3 hp, pk_in _ 36 (by omega) ei, nm_r (td_up ei (by omega) (v' := a11 (12 * p + (y + 1 - m')) ||| ((1 : Int32) <<< ((nI x - nI (pw p) + 1) &&& 31))) ?_) ?_⟩
    · rw [e2, td_rd (f := a11) ei (by omega) rfl]
    · unfold td_G1 at hH
      rw [if_pos z, ← z] at hH
      exact hH
  · unfold td_G1 at hH
    rw [if_neg z] at hH
    exact hH
theorem td_a78 {m1 : Nat} (hp : p < 3) (hx : x < 12) (hy : y < 12) (hph : ∀ p, 1 ≤ ph p ∧ ph p ≤ 2) (h2 : td_pic a2 pw 3) (h3 : td_pic a3 ph 3) (hMy : M (12 * p + x) ≤ y)
    (h1 : m1 < ph p) (hle : m1 ≤ M (12 * p + x)) (hq : 1 ≤ m1 → a9 (4 * p + m1) = v)
    (hk : ph p = 2 → v = a9 (4 * p + 1) → (M (12 * p + x) = 1 ∨ (M (12 * p + x) = 2 ∧ a9 (4 * p) = a9 (4 * p + 1))) → m1 = 1)
    (H : ∀ m', td_ms (ph p) a9 p v (M (12 * p + x)) m' → post (fw, fh, fc, fs, a1, a2, a3, a4, a5, a6, a7, a8, a9, a10, td_G1 (pw p) (ph p) p x y m' a11, upd a12 (12 * p + x) (nI m'))) :
    wX_advance_78 post (nI p) (nI x) (nI y) v (nI (12 * p + x)) (nI m1) fw fh fc fs a1 a2 a3 a4 a5 a6 a7 a8 a9 a10 a11 a12 := by
  have hphp := hph p
  have ei := td_i4 p m1
  have e9 : a9 ((4 : Int32) * nI p + nI m1).toNatClampNeg = a9 (4 * p + m1) := td_rd ei (by omega) rfl
  refine And.intro (pk_in _ 12 (by omega) ei) (br_c (fun z => nm_r (nI_1 m1) (td_a97 hp hx hy hph h2 h3 hMy ⟨by omega, by omega, fun _ => ?_, fun _ => by omega, fun g1 g2 g3 => ?_⟩ H)) (fun z => td_a97 hp hx hy hph h2 h3 hMy ⟨by omega, by omega, fun g => ?_, fun g => ?_, fun g1 g2 g3 => ?_⟩ H))
  · rw [e9] at z; rw [← z]; rfl
  · rw [hk g1 g2 g3]
  · rw [e9] at z; exact absurd (hq g) z
  · rw [e9] at z
    by_cases e : m1 = 0
    · subst e; exact absurd g.symm z
    · omega
  · have e := hk g1 g2 g3
    rw [e9] at z
    exact absurd (hq (by omega)) z
theorem td_a41 {m0 : Nat} (hp : p < 3) (hx : x < 12) (hy : y < 12) (hph : ∀ p, 1 ≤ ph p ∧ ph p ≤ 2) (h2 : td_pic a2 pw 3) (h3 : td_pic a3 ph 3) (hMy : M (12 * p + x) ≤ y) (hF : td_F ph a9 a10 p)
    (h1 : m0 < ph p) (hle : m0 ≤ M (12 * p + x))
    (hk : ph p = 2 → (M (12 * p + x) = 1 ∨ (M (12 * p + x) = 2 ∧ a9 (4 * p) = a9 (4 * p + 1))) → m0 = 1)
    (H : ∀ m', td_ms (ph p) a9 p v (M (12 * p + x)) m' → post (fw, fh, fc, fs, a1, a2, a3, a4, a5, a6, a7, a8, a9, a10, td_G1 (pw p) (ph p) p x y m' a11, upd a12 (12 * p + x) (nI m'))) :
    ∃ n, wX_advance_41 post (nI p) (nI x) (nI y) v (nI (12 * p + x)) fw fh fc fs a1 a2 a3 a4 a5 a6 a7 a8 a9 a10 a11 a12 n (nI m0) := by
  have hphp := hph p
  by_cases e : m0 = 0
  · subst e
    exact ⟨1, pk_le 0 0 (fun _ => td_a78 hp hx hy hph h2 h3 hMy h1 hle (fun z => absurd z (by omega)) (fun g1 _ g3 => hk g1 g3) H) (fun z => absurd z (by omega))⟩
  · have e1 : m0 = 1 := by omega
    subst e1
    have ei := td_i4 p 1
    have e9 : a9 ((4 : Int32) * nI p + nI 1).toNatClampNeg = a9 (4 * p + 1) := td_rd ei (by omega) rfl
    refine ⟨2, pk_le 1 0 (fun z => absurd z (by omega)) (fun _ => ⟨pk_in _ 12 (by omega) ei, br_c (fun z => ?_) (fun z => ⟨pk_in (5 * p + 1) 15 (by omega) (td_i5c p 1), nm_r (td_rd (td_i5c p 1) (by omega) hF.1) (pk_le 0 0 (fun _ => ?_) (fun z => absurd z (by omega)))⟩)⟩)⟩
    · rw [e9] at z
      exact td_a78 hp hx hy hph h2 h3 hMy h1 hle (fun _ => z) (fun _ _ _ => rfl) H
    · rw [e9] at z
      exact td_a78 hp hx hy hph h2 h3 hMy (by omega) (by omega) (fun g => absurd g (by omega)) (fun _ g _ => absurd g.symm z) H
theorem td_adv (hp : p < 3) (hx : x < 12) (hy : y < 12) (hph : ∀ p, 1 ≤ ph p ∧ ph p ≤ 2) (h2 : td_pic a2 pw 3) (h3 : td_pic a3 ph 3) (h12 : td_pic a12 M 36) (hMy : M (12 * p + x) ≤ y) (hM : M (12 * p + x) ≤ ph p) (hF : td_F ph a9 a10 p)
    (H : ∀ m', td_ms (ph p) a9 p v (M (12 * p + x)) m' → post (fw, fh, fc, fs, a1, a2, a3, a4, a5, a6, a7, a8, a9, a10, td_G1 (pw p) (ph p) p x y m' a11, upd a12 (12 * p + x) (nI m'))) :
    wpX_advance post (fw, fh, fc, fs, a1, a2, a3, a4, a5, a6, a7, a8, a9, a10, a11, a12) (nI p) (nI x) (nI y) v := by
  have hphp := hph p
  have e3 : a3 (nI p).toNatClampNeg = nI (ph p) := td_rd rfl (by omega) (h3 p hp)
  refine nm_r (td_i12 p x) (And.intro (pk_in (12 * p + x) 36 (by omega)) (nm_r (td_pic_rd h12 rfl (by omega) (by omega)) (And.intro (pk_in p 3 hp) (pk_eq (M (12 * p + x)) (ph p) (fun z => ?_) (fun z => ?_) rfl e3))))
  · refine ⟨pk_in (5 * p + M (12 * p + x)) 15 (by omega) (td_i5c p _), ?_⟩
    have key : ∃ f, f < ph p ∧ f ≤ M (12 * p + x) ∧ a10 (5 * p + M (12 * p + x)) = nI f ∧ (ph p = 2 → (M (12 * p + x) = 1 ∨ (M (12 * p + x) = 2 ∧ a9 (4 * p) = a9 (4 * p + 1))) → f = 1) := by
      by_cases e : ph p = 1
      · exact ⟨0, by omega, by omega, by rw [z, e]; exact hF.1, fun g => absurd g (by omega)⟩
      · have e2 : ph p = 2 := by omega
        obtain ⟨f1, f2⟩ := hF.2 e2
        by_cases g : a9 (4 * p) = a9 (4 * p + 1)
        · exact ⟨1, by omega, by omega, by rw [z, e2]; exact f1 g, fun _ _ => rfl⟩
        · refine ⟨0, by omega, by omega, by rw [z, e2]; exact f2 g, fun _ q => ?_⟩
          rcases q with q | q
          · omega
          · exact absurd q.2 g
    obtain ⟨f, k1, k2, k3, k4⟩ := key
    exact nm_r (td_rd (td_i5c p _) (by omega) k3) (td_a41 hp hx hy hph h2 h3 hMy hF k1 k2 k4 H)
  · exact td_a41 hp hx hy hph h2 h3 hMy hF (by omega) (Nat.le_refl _) (fun g1 g2 => by omega) H
end
section
variable {W : Nat} {T pw ph P B : Nat → Nat} {y : Nat}
theorem td_sr36 {J : (Int32 → Int32 → Int32 → Int32 → Int32 → Int32 → (Nat → Int32) → (Nat → Int32) → (Nat → Int32) → (Nat → Int32) → (Nat → Int32) → (Nat → Int32) → (Nat → Int32) → (Nat → Int32) → (Nat → Int32) → (Nat → Int32) → (Nat → Int32) → (Nat → Int32) → Prop)} {x : Nat} (hW : W ≤ 12) (hpw : ∀ p, 1 ≤ pw p ∧ pw p ≤ 2) (hph : ∀ p, 1 ≤ ph p ∧ ph p ≤ 2) (hB : ∀ j, B j < 49) (h2 : td_pic a2 pw 3) (h3 : td_pic a3 ph 3) (hF : ∀ p, p < 3 → td_F ph a9 a10 p) (hx : x < W) (hy : y < 12)
    (h0 : ∃ M, td_pic a12 M 36 ∧ td_S W pw ph a9 (td_rr B T a8) (td_d y x 0) M a11)
    (H : ∀ b11 b12 : Nat → Int32, (∃ M, td_pic b12 M 36 ∧ td_S W pw ph a9 (td_rr B T a8) (td_d y (x + 1) 0) M b11) → J (nI (td_node B T y (x + 1))) (nI (x + 1)) fw fh fc fs a1 a2 a3 a4 a5 a6 a7 a8 a9 a10 b11 b12) :
    ∃ n, wX_searchRow_36 post J (nI y) (nI (td_node B T y (x + 1))) (nI x) n 0 fw fh fc fs a1 a2 a3 a4 a5 a6 a7 a8 a9 a10 a11 a12 := by
  refine pk_loop (σ := (Nat → Int32) × (Nat → Int32)) (fun n i t => wX_searchRow_36 post J (nI y) (nI (td_node B T y (x + 1))) (nI x) n (nI i) fw fh fc fs a1 a2 a3 a4 a5 a6 a7 a8 a9 a10 t.1 t.2)
    (fun i t => ∃ M, td_pic t.2 M 36 ∧ td_S W pw ph a9 (td_rr B T a8) (td_d y x i) M t.1) 3 0 (a11, a12) (by omega) h0 ?_ ?_
  · intro n t h
    obtain ⟨M, g1, g2⟩ := h
    exact pk_le 3 3 (fun _ => nm_r (nI_1 x) (H t.1 t.2 ⟨M, g1, td_S_congr g2 hpw (fun q z hq _ => td_d_x hq)⟩)) (fun z => absurd z (by omega))
  · intro n p t hp h hw
    obtain ⟨t11, t12⟩ := t
    obtain ⟨M, g1, g2⟩ := h
    dsimp only at g1 g2
    have hnd := td_node_lt (T := T) (y := y) hB (x + 1)
    have ei := td_i49 p (td_node B T y (x + 1))
    have e8 : a8 ((49 : Int32) * nI p + nI (td_node B T y (x + 1))).toNatClampNeg = td_rr B T a8 p x y := td_rd ei (by omega) rfl
    have q := g2.1 p x hp hx
    rw [td_d_at] at q
    refine pk_le 3 p (fun z => absurd z (by omega)) (fun _ => ⟨pk_in _ 147 (by omega) ei, ?_⟩)
    rw [e8]
    refine td_adv hp (by omega) hy hph h2 h3 g1 q.2.1 q.1 (hF p hp) (fun m' hm => nm_r (nI_1 p) (hw (td_G1 (pw p) (ph p) p x y m' t11, upd t12 (12 * p + x) (nI m')) ⟨_, td_pic_u g1, ?_⟩))
    exact td_S_step g2 hW hpw hph hp hx (td_d_at y x p) rfl (fun q z _ _ => td_d_s y x p q z) hm
theorem td_sRow (hW : W ≤ 12) (hpw : ∀ p, 1 ≤ pw p ∧ pw p ≤ 2) (hph : ∀ p, 1 ≤ ph p ∧ ph p ≤ 2) (hB : ∀ j, B j < 49) (hT : ∀ j, T j < 3) (h1 : td_pic a1 T 144) (h2 : td_pic a2 pw 3) (h3 : td_pic a3 ph 3) (h5 : td_pic a5 B 147)
    (hF : ∀ p, p < 3 → td_F ph a9 a10 p) (hy : y < 12)
    (h0 : ∃ M, td_pic a12 M 36 ∧ td_S W pw ph a9 (td_rr B T a8) (td_d y 0 0) M a11)
    (H : ∀ b11 b12 : Nat → Int32, (∃ M, td_pic b12 M 36 ∧ td_S W pw ph a9 (td_rr B T a8) (td_d (y + 1) 0 0) M b11) → post (nI W, fh, fc, fs, a1, a2, a3, a4, a5, a6, a7, a8, a9, a10, b11, b12)) :
    wpX_searchRow post (nI W, fh, fc, fs, a1, a2, a3, a4, a5, a6, a7, a8, a9, a10, a11, a12) (nI y) := by
  show ∃ fu4 : Nat, wX_searchRow_4 post (nI y) fu4 0 0 (nI W) fh fc fs a1 a2 a3 a4 a5 a6 a7 a8 a9 a10 a11 a12
  refine pk_loop (σ := Int32 × (Nat → Int32) × (Nat → Int32)) (fun n i t => wX_searchRow_4 post (nI y) n t.1 (nI i) (nI W) fh fc fs a1 a2 a3 a4 a5 a6 a7 a8 a9 a10 t.2.1 t.2.2)
    (fun i t => t.1 = nI (td_node B T y i) ∧ ∃ M, td_pic t.2.2 M 36 ∧ td_S W pw ph a9 (td_rr B T a8) (td_d y i 0) M t.2.1) W 0 (0, a11, a12) (by omega) ⟨rfl, h0⟩ ?_ ?_
  · intro n t h
    obtain ⟨_, M, g1, g2⟩ := h
    exact pk_le W W (fun _ => H t.2.1 t.2.2 ⟨M, g1, td_S_congr g2 hpw (fun q z _ hz => td_d_y hz)⟩) (fun z => absurd z (by omega))
  · intro n x t hx h hw
    obtain ⟨t1, t11, t12⟩ := t
    obtain ⟨e, h0⟩ := h
    dsimp only at e h0
    subst e
    have hnd := td_node_lt (T := T) (y := y) hB x
    have ei := td_i12 y x
    have e1 : a1 ((12 : Int32) * nI y + nI x).toNatClampNeg = nI (T (12 * y + x)) := td_pic_rd h1 ei (by omega) (by omega)
    have hTx := hT (12 * y + x)
    have ej : (3 : Int32) * nI (td_node B T y x) + a1 ((12 : Int32) * nI y + nI x).toNatClampNeg = nI (3 * td_node B T y x + T (12 * y + x)) := by rw [e1, td_i3]
    refine pk_le W x (fun z => absurd z (by omega)) (fun _ => ⟨pk_in _ 144 (by omega) ei, pk_in _ 147 (by omega) ej, nm_r (td_pic_rd h5 ej (by omega) (by omega)) ?_⟩)
    exact td_sr36 hW hpw hph hB h2 h3 hF hx hy h0 (fun b11 b12 hM => hw (nI (td_node B T y (x + 1)), b11, b12) ⟨rfl, hM⟩)
/-- the searched state, or the state that is to be searched -/
def td_C (W H : Nat) (T pw ph P : Nat → Nat) : Prop :=
  4 ≤ W ∧ W ≤ 12 ∧ 4 ≤ H ∧ H ≤ 12 ∧ (∀ j, T j < 3) ∧ (∀ p, 1 ≤ pw p ∧ pw p ≤ 2) ∧ (∀ p, 1 ≤ ph p ∧ ph p ≤ 2) ∧ (∀ j, P j < 3)
def td_V (T pw ph P : Nat → Nat) (a1 a2 a3 a4 : Nat → Int32) : Prop := td_pic a1 T 144 ∧ td_pic a2 pw 3 ∧ td_pic a3 ph 3 ∧ td_pic a4 P 48
theorem td_srch {H : Nat} (hC : td_C W H T pw ph P) (hV : td_V T pw ph P a1 a2 a3 a4) (h0 : fs = 0 ∨ td_GF W H T pw ph P a11)
    (K : ∀ (gc gs : Int32) (g5 g6 g7 g8 g9 g10 g11 g12 : Nat → Int32), ¬ gs = 0 → td_GF W H T pw ph P g11 → post (nI W, nI H, gc, gs, a1, a2, a3, a4, g5, g6, g7, g8, g9, g10, g11, g12)) :
    wpX_search post (nI W, nI H, fc, fs, a1, a2, a3, a4, a5, a6, a7, a8, a9, a10, a11, a12) := by
  obtain ⟨c1, c2, c3, c4, hT, hpw, hph, hP⟩ := hC
  obtain ⟨h1, h2, h3, h4⟩ := hV
  refine br_c (fun z => ?_) (fun z => K _ _ _ _ _ _ _ _ _ _ z (h0.resolve_left z))
  refine td_build hpw hph h2 h3 h4 hP (fun fc' B b5 b6 b7 b8 b9 h5 hA => ?_)
  show ∃ fu19 : Nat, wX_search_19 post fu19 0 (nI W) (nI H) fc' 1 a1 a2 a3 a4 b5 b6 b7 b8 b9 a10 a11 a12
  refine pk_loop (σ := Nat → Int32) (fun n i t => wX_search_19 post n (nI i) (nI W) (nI H) fc' 1 a1 a2 a3 a4 b5 b6 b7 b8 b9 t a11 a12)
    (fun i t => ∀ p, p < i → td_F ph b9 t p) 3 0 a10 (by omega) (fun p hp => absurd hp (by omega)) ?_ ?_
  · intro n t hF
    refine pk_le 3 3 (fun _ => ?_) (fun z => absurd z (by omega))
    refine pk_loop (σ := (Nat → Int32) × (Nat → Int32)) (fun n i s => wX_search_37 post (nI W) (nI H) fc' 1 n (nI i) a1 a2 a3 a4 b5 b6 b7 b8 b9 t s.1 s.2)
      (fun i s => ∀ j, j < i → s.1 j = 0 ∧ s.2 j = 0) 36 0 (a11, a12) (by omega) (fun p hp => absurd hp (by omega)) ?_ ?_
    · intro n s hs
      obtain ⟨s11, s12⟩ := s
      dsimp only at hs
      refine pk_le 36 36 (fun _ => ?_) (fun z => absurd z (by omega))
      refine pk_loop (σ := (Nat → Int32) × (Nat → Int32)) (fun n i s => wX_search_65 post n (nI i) (nI W) (nI H) fc' 1 a1 a2 a3 a4 b5 b6 b7 b8 b9 t s.1 s.2)
        (fun i s => ∃ M, td_pic s.2 M 36 ∧ td_S W pw ph b9 (td_rr B T b8) (td_d i 0 0) M s.1) H 0 (s11, s12) (by omega)
        ⟨fun _ => 0, fun j hj => (hs j hj).2, td_S_0 c2 hpw hph (fun q z _ _ => td_d_0 0 q z) (fun _ => rfl) (fun j hj => (hs j hj).1)⟩ ?_ ?_
      · intro n s h
        obtain ⟨M, g1, g2⟩ := h
        exact pk_le H H (fun _ => K fc' 1 b5 b6 b7 b8 b9 t s.1 s.2 (by decide) (td_S_GF hA hT hpw g2 (fun q z _ _ => td_d_0 H q z))) (fun z => absurd z (by omega))
      · intro n y s hy h hw
        obtain ⟨s11, s12⟩ := s
        refine pk_le H y (fun z => absurd z (by omega)) (fun _ => ?_)
        exact td_sRow c2 hpw hph hA.1 hT h1 h2 h3 h5 hF (by omega) h (fun b11 b12 hM => nm_r (nI_1 y) (hw (b11, b12) hM))
    · intro n i s hi h hw
      refine pk_le 36 i (fun z => absurd z (by omega)) (fun _ => ⟨pk_in i 36 hi, nm_r (td_up rfl (by omega) rfl) ⟨pk_in i 36 hi, nm_r (td_up rfl (by omega) rfl) (nm_r (nI_1 i) (hw (upd s.1 i 0, upd s.2 i 0) (fun j hj => ?_)))⟩⟩)
      dsimp only
      by_cases e : j = i
      · rw [e, pk_us, pk_us]; exact ⟨rfl, rfl⟩
      · rw [pk_un e, pk_un e]; exact h j (by omega)
  · intro n p t hp h hw
    refine pk_le 3 p (fun z => absurd z (by omega)) (fun _ => ?_)
    refine td_bF hp hph h3 (fun b10 hF ho => nm_r (nI_1 p) (hw b10 (fun q hq => ?_)))
    by_cases e : q = p
    · rw [e]; exact hF
    · have := h q (by omega)
      unfold td_F at this ⊢
      rw [ho _ (by omega), ho _ (by omega)]
      exact this
end
end
end
section
/-! the codes of the places found, and their count -/
def td_gd (W H p : Nat) (G : Nat → Int32) (c : Nat) : Bool := decide (c % 16 < W ∧ c / 16 < H) && td_bt (G (12 * p + c / 16)) (c % 16)
theorem td_gd_i {W H p c : Nat} {G : Nat → Int32} (h1 : c % 16 < W) (h2 : c / 16 < H) (h3 : td_bt (G (12 * p + c / 16)) (c % 16) = true) : td_gd W H p G c = true := by
  unfold td_gd
  rw [h3, decide_eq_true ⟨h1, h2⟩]; rfl
theorem td_gd_e {W H p c : Nat} {G : Nat → Int32} (h : td_gd W H p G c = true) : c % 16 < W ∧ c / 16 < H ∧ td_bt (G (12 * p + c / 16)) (c % 16) = true := by
  unfold td_gd at h
  rw [Bool.and_eq_true] at h
  have := of_decide_eq_true h.1
  exact ⟨this.1, this.2, h.2⟩
def td_ct (W H p : Nat) (G : Nat → Int32) : Nat → Nat
  | 0 => 0
  | c + 1 => td_ct W H p G c + (if td_gd W H p G c = true then 1 else 0)
theorem td_ct_1 {W H p c : Nat} {G : Nat → Int32} (h : td_gd W H p G c = true) : td_ct W H p G (c + 1) = td_ct W H p G c + 1 := by
  show td_ct W H p G c + (if td_gd W H p G c = true then 1 else 0) = _
  rw [if_pos h]
theorem td_ct_0 {W H p c : Nat} {G : Nat → Int32} (h : ¬ td_gd W H p G c = true) : td_ct W H p G (c + 1) = td_ct W H p G c := by
  show td_ct W H p G c + (if td_gd W H p G c = true then 1 else 0) = _
  rw [if_neg h]; rfl
theorem td_ct_flat {W H p f : Nat} {G : Nat → Int32} : ∀ d, (∀ c, f ≤ c → c < f + d → ¬ td_gd W H p G c = true) → td_ct W H p G (f + d) = td_ct W H p G f := by
  intro d
  induction d with
  | zero => intro _; rfl
  | succ d ih =>
    intro h
    have := td_ct_0 (h (f + d) (by omega) (by omega))
    rw [← ih (fun c h1 h2 => h c h1 (by omega))]
    exact this
theorem td_ct_to {W H p f g : Nat} {G : Nat → Int32} (hf : f ≤ g) (h : ∀ c, f ≤ c → c < g → ¬ td_gd W H p G c = true) : td_ct W H p G g = td_ct W H p G f := by
  have := td_ct_flat (W := W) (H := H) (p := p) (G := G) (f := f) (g - f) (fun c h1 h2 => h c h1 (by omega))
  rw [show f + (g - f) = g by omega] at this
  exact this
theorem td_ct_le {W H p : Nat} {G : Nat → Int32} (hW : W ≤ 12) : ∀ c, td_ct W H p G c ≤ 12 * (c / 16) + min (c % 16) 12 := by
  intro c
  induction c with
  | zero => exact Nat.zero_le _
  | succ c ih =>
    by_cases h : td_gd W H p G c = true
    · have := (td_gd_e h).1
      rw [td_ct_1 h]
      omega
    · rw [td_ct_0 h]
      omega
theorem td_no1 {A B : Prop} (h : B) : ((1 : Int32) = 0 → A) ∧ (¬ (1 : Int32) = 0 → B) := ⟨fun z => absurd z (by decide), fun _ => h⟩
theorem td_no0 {A B : Prop} (h : A) : ((0 : Int32) = 0 → A) ∧ (¬ (0 : Int32) = 0 → B) := ⟨fun _ => h, fun z => absurd rfl z⟩
theorem td_bitbr {A B : Prop} {v w : Int32} {b : Nat} (hb : b < 32) (e : v = w) (f : td_bt w b = false → A) (g : td_bt w b = true → B) :
    (((v >>> (nI b &&& 31)) &&& 1) = 0 → A) ∧ (¬ ((v >>> (nI b &&& 31)) &&& 1) = 0 → B) := by
  subst e
  rw [td_bit v hb]
  cases e : td_bt v b with
  | false => exact ⟨fun _ => f e, fun z => absurd rfl z⟩
  | true => exact ⟨fun z => absurd z (by decide), fun _ => g e⟩
theorem td_isP {post : Int32 → Prop} {u : St2} {p : Nat} (hp : p < 3) (h : post 1) : wpX_isPattern post u (nI p) := by
  obtain ⟨_, _, _, _, _, _, _, _, _, _, _, _, _, _, _, _⟩ := u
  exact pk_lt p 0 (fun z => absurd z (by omega)) (fun _ => pk_lt 2 p (fun z => absurd z (by omega)) (fun _ => h))
section
variable {post : St2 → Prop} {qost : Int32 → St2 → Prop} {rost : Int32 → Prop} {fw fh fc fs : Int32} {a1 a2 a3 a4 a5 a6 a7 a8 a9 a10 a11 a12 : Nat → Int32} {W H p : Nat} {T pw ph P : Nat → Nat}
theorem td_inT {x y : Nat} (hW : W ≤ 12) (hH : H ≤ 12) (hx : x < 1000) (hy : y < 1000) (h1 : x < W → y < H → rost 1) (h0 : ¬ (x < W ∧ y < H) → rost 0) : wpX_inText rost (nI W, nI H, fc, fs, a1, a2, a3, a4, a5, a6, a7, a8, a9, a10, a11, a12) (nI x) (nI y) :=
  pk_lt x 0 (fun z => absurd z (by omega)) (fun _ => pk_le W x (fun z => h0 (by omega)) (fun z => pk_lt y 0 (fun z => absurd z (by omega)) (fun _ => pk_le H y (fun z => h0 (by omega)) (fun z2 => h1 z z2))))
theorem td_srch1 (hs : ¬ fs = 0) (h : post (fw, fh, fc, fs, a1, a2, a3, a4, a5, a6, a7, a8, a9, a10, a11, a12)) : wpX_search post (fw, fh, fc, fs, a1, a2, a3, a4, a5, a6, a7, a8, a9, a10, a11, a12) := br_c (fun z => absurd z hs) (fun _ => h)
theorem td_occ0 {x y : Nat} (hC : td_C W H T pw ph P) (hV : td_V T pw ph P a1 a2 a3 a4) (h0 : fs = 0 ∨ td_GF W H T pw ph P a11) (hp : p < 3) (hx : x < W) (hy : y < H)
    (K : ∀ (gc gs : Int32) (g5 g6 g7 g8 g9 g10 g11 g12 : Nat → Int32), ¬ gs = 0 → td_GF W H T pw ph P g11 →
      (td_bt (g11 (12 * p + y)) x = false → qost 0 (nI W, nI H, gc, gs, a1, a2, a3, a4, g5, g6, g7, g8, g9, g10, g11, g12)) ∧ (td_bt (g11 (12 * p + y)) x = true → qost 1 (nI W, nI H, gc, gs, a1, a2, a3, a4, g5, g6, g7, g8, g9, g10, g11, g12))) :
    wpX_occurs qost (nI W, nI H, fc, fs, a1, a2, a3, a4, a5, a6, a7, a8, a9, a10, a11, a12) (nI p) (nI x) (nI y) := by
  have c2 := hC.2.1
  have c4 := hC.2.2.2.1
  unfold wpX_occurs
  refine td_isP hp (td_no1 (td_inT c2 c4 (by omega) (by omega) (fun _ _ => td_no1 ?_) (fun z => absurd ⟨hx, hy⟩ z)))
  refine td_srch hC hV h0 (fun gc gs g5 g6 g7 g8 g9 g10 g11 g12 hgs hG => ?_)
  obtain ⟨k0, k1⟩ := K gc gs g5 g6 g7 g8 g9 g10 g11 g12 hgs hG
  exact And.intro (pk_in (12 * p + y) 36 (by omega) (td_i12 p y)) (td_bitbr (by omega) (td_rd (td_i12 p y) (by omega) rfl) k0 k1)
theorem td_occ1 {x y : Nat} (hW : W ≤ 12) (hH : H ≤ 12) (hs : ¬ fs = 0) (hp : p < 3) (hx : x < W) (hy : y < H) (hb : td_bt (a11 (12 * p + y)) x = true) (K : qost 1 (nI W, nI H, fc, fs, a1, a2, a3, a4, a5, a6, a7, a8, a9, a10, a11, a12)) : wpX_occurs qost (nI W, nI H, fc, fs, a1, a2, a3, a4, a5, a6, a7, a8, a9, a10, a11, a12) (nI p) (nI x) (nI y) := by
  unfold wpX_occurs
  refine td_isP hp (td_no1 (td_inT hW hH (by omega) (by omega) (fun _ _ => td_no1 ?_) (fun z => absurd ⟨hx, hy⟩ z)))
  refine td_srch1 hs ?_
  exact And.intro (pk_in (12 * p + y) 36 (by omega) (td_i12 p y)) (td_bitbr (by omega) (td_rd (td_i12 p y) (by omega) rfl) (fun z => absurd z (by rw [hb]; decide)) (fun _ => K))
/-- what next answers -/
def td_NX (W H p : Nat) (G : Nat → Int32) (f : Nat) (Q : Int32 → Prop) : Prop :=
  (∀ c, f ≤ c → td_gd W H p G c = true → (∀ c', f ≤ c' → c' < c → ¬ td_gd W H p G c' = true) → Q (nI c)) ∧ ((∀ c, f ≤ c → c < 16 * H → ¬ td_gd W H p G c = true) → Q (-2))
theorem td_nx27 {J : Int32 → Prop} {f y : Nat} (hW : W ≤ 12) (hH : H ≤ 12) (hp : p < 3) (hf : f < 1000) (hy : y < H) (h0 : ∀ c, f ≤ c → c < 16 * y → ¬ td_gd W H p a11 c = true)
    (K1 : ∀ c, f ≤ c → td_gd W H p a11 c = true → (∀ c', f ≤ c' → c' < c → ¬ td_gd W H p a11 c' = true) → qost (nI c) (nI W, nI H, fc, fs, a1, a2, a3, a4, a5, a6, a7, a8, a9, a10, a11, a12))
    (K2 : (∀ c, f ≤ c → c < 16 * (y + 1) → ¬ td_gd W H p a11 c = true) → J (nI (y + 1))) :
    ∃ n, wX_next_27 qost J (nI p) (nI f) (nI y) (nI W) (nI H) fc fs a1 a2 a3 a4 a5 a6 a7 a8 a9 a10 a11 a12 n 0 := by
  refine pk_loop (σ := Unit) (fun n i _ => wX_next_27 qost J (nI p) (nI f) (nI y) (nI W) (nI H) fc fs a1 a2 a3 a4 a5 a6 a7 a8 a9 a10 a11 a12 n (nI i)) (fun i _ => ∀ c, f ≤ c → c < 16 * y + i → ¬ td_gd W H p a11 c = true) W 0 () (by omega) (fun c h1 h2 => h0 c h1 (by omega)) ?_ ?_
  · intro n _ h
    refine pk_le W W (fun _ => nm_r (nI_1 y) (K2 (fun c h1 h2 g => ?_))) (fun z => absurd z (by omega))
    by_cases e : c < 16 * y + W
    · exact h c h1 e g
    · have := (td_gd_e g).1
      omega
  · intro n x _ hx h hw
    have ec := td_i16c y x
    refine pk_le W x (fun z => absurd z (by omega)) (fun _ => pk_lt (16 * y + x) f (fun z => nm_r (nI_1 x) (hw () (fun c h1 h2 => absurd h1 (by omega))))
      (fun z => ⟨pk_in (12 * p + y) 36 (by omega) (td_i12 p y), td_bitbr (by omega) (td_rd (td_i12 p y) (by omega) rfl) (fun hb => nm_r (nI_1 x) (hw () (fun c h1 h2 g => ?_))) (fun hb => ?_)⟩) ec)
    · by_cases e : c < 16 * y + x
      · exact h c h1 e g
      · have ee : c = 16 * y + x := by omega
        subst ee
        have g3 := (td_gd_e g).2.2
        rw [show (16 * y + x) / 16 = y by omega, show (16 * y + x) % 16 = x by omega, hb] at g3
        exact absurd g3 (by decide)
    · rw [ec]
      refine K1 (16 * y + x) z (td_gd_i (by omega) (by omega) ?_) (fun c' h1 h2 => h c' h1 h2)
      rw [show (16 * y + x) / 16 = y by omega, show (16 * y + x) % 16 = x by omega]
      exact hb
theorem td_nx16 {f : Nat} (hW : W ≤ 12) (hH : H ≤ 12) (hp : p < 3) (hf : f < 1000) (K : td_NX W H p a11 f (fun r => qost r (nI W, nI H, fc, fs, a1, a2, a3, a4, a5, a6, a7, a8, a9, a10, a11, a12))) :
    ∃ n, wX_next_16 qost (nI p) (nI f) (nI W) (nI H) fc fs a1 a2 a3 a4 a5 a6 a7 a8 a9 a10 a11 a12 n 0 := by
  refine pk_loop (σ := Unit) (fun n i _ => wX_next_16 qost (nI p) (nI f) (nI W) (nI H) fc fs a1 a2 a3 a4 a5 a6 a7 a8 a9 a10 a11 a12 n (nI i)) (fun i _ => ∀ c, f ≤ c → c < 16 * i → ¬ td_gd W H p a11 c = true) H 0 () (by omega) (fun c h1 h2 => absurd h2 (by omega)) ?_ ?_
  · intro n _ h
    exact pk_le H H (fun _ => K.2 h) (fun z => absurd z (by omega))
  · intro n y _ hy h hw
    exact pk_le H y (fun z => absurd z (by omega)) (fun _ => td_nx27 hW hH hp hf hy h K.1 (fun h' => hw () h'))
theorem td_next0 {f : Nat} (hC : td_C W H T pw ph P) (hV : td_V T pw ph P a1 a2 a3 a4) (h0 : fs = 0 ∨ td_GF W H T pw ph P a11) (hp : p < 3) (hf : f < 1000)
    (K : ∀ (gc gs : Int32) (g5 g6 g7 g8 g9 g10 g11 g12 : Nat → Int32), ¬ gs = 0 → td_GF W H T pw ph P g11 → td_NX W H p g11 f (fun r => qost r (nI W, nI H, gc, gs, a1, a2, a3, a4, g5, g6, g7, g8, g9, g10, g11, g12))) :
    wpX_next qost (nI W, nI H, fc, fs, a1, a2, a3, a4, a5, a6, a7, a8, a9, a10, a11, a12) (nI p) (nI f) := by
  unfold wpX_next
  exact td_isP hp (td_no1 (td_srch hC hV h0 (fun gc gs g5 g6 g7 g8 g9 g10 g11 g12 hgs hG => td_nx16 hC.2.1 hC.2.2.2.1 hp hf (K gc gs g5 g6 g7 g8 g9 g10 g11 g12 hgs hG))))
theorem td_next1 {f : Nat} (hW : W ≤ 12) (hH : H ≤ 12) (hs : ¬ fs = 0) (hp : p < 3) (hf : f < 1000) (K : td_NX W H p a11 f (fun r => qost r (nI W, nI H, fc, fs, a1, a2, a3, a4, a5, a6, a7, a8, a9, a10, a11, a12))) :
    wpX_next qost (nI W, nI H, fc, fs, a1, a2, a3, a4, a5, a6, a7, a8, a9, a10, a11, a12) (nI p) (nI f) := by
  unfold wpX_next
  exact td_isP hp (td_no1 (td_srch1 hs (td_nx16 hW hH hp hf K)))
theorem td_bits {v : Int32} {y : Nat} (hW : W ≤ 12) (hF : ∀ b, W ≤ b → b < 12 → td_bt (a11 (12 * p + y)) b = false) (hy : y < H) (hv : v = a11 (12 * p + y))
    (K : ∀ t, td_ct W H p a11 (16 * y) + t = td_ct W H p a11 (16 * (y + 1)) → rost (nI t)) : wpX_bitsIn rost (fw, fh, fc, fs, a1, a2, a3, a4, a5, a6, a7, a8, a9, a10, a11, a12) v := by
  show ∃ fu4 : Nat, wX_bitsIn_4 rost v fw fh fc fs a1 a2 a3 a4 a5 a6 a7 a8 a9 a10 a11 a12 fu4 0 0
  refine pk_loop (σ := Int32) (fun n i t => wX_bitsIn_4 rost v fw fh fc fs a1 a2 a3 a4 a5 a6 a7 a8 a9 a10 a11 a12 n t (nI i)) (fun i s => ∃ t, s = nI t ∧ td_ct W H p a11 (16 * y) + t = td_ct W H p a11 (16 * y + i)) 12 0 0 (by omega) ⟨0, rfl, rfl⟩ ?_ ?_
  · intro n s h
    obtain ⟨t, rfl, h⟩ := h
    refine pk_le 12 12 (fun _ => K t ?_) (fun z => absurd z (by omega))
    rw [h]
    refine (td_ct_to (by omega) (fun c h1 h2 g => ?_)).symm
    have := (td_gd_e g).1
    omega
  · intro n b s hb h hw
    obtain ⟨t, rfl, h⟩ := h
    have e1 : (16 * y + b) / 16 = y := by omega
    have e2 : (16 * y + b) % 16 = b := by omega
    refine pk_le 12 b (fun z => absurd z (by omega)) (fun _ => nm_r (e' := nI (t + if td_bt v b = true then 1 else 0)) (by rw [td_bit v (by omega), nI_add]) (nm_r (nI_1 b) (hw _ ⟨_, rfl, ?_⟩)))
    by_cases g : td_bt v b = true
    · rw [if_pos g]
      have hbW : b < W := by
        by_cases e : b < W
        · exact e
        · rw [hv, hF b (by omega) hb] at g; exact absurd g (by decide)
      have := td_ct_1 (W := W) (H := H) (p := p) (G := a11) (c := 16 * y + b) (td_gd_i (by omega) (by omega) (by rw [e1, e2, ← hv]; exact g))
      rw [show 16 * y + (b + 1) = 16 * y + b + 1 by omega, this]
      omega
    · rw [if_neg g]
      have := td_ct_0 (W := W) (H := H) (p := p) (G := a11) (c := 16 * y + b) (fun z => g (by
        have := (td_gd_e z).2.2
        rw [e1, e2, ← hv] at this
        exact this))
      rw [show 16 * y + (b + 1) = 16 * y + b + 1 by omega, this]
      omega
theorem td_occs (hW : W ≤ 12) (hH : H ≤ 12) (hs : ¬ fs = 0) (hp : p < 3) (hF : ∀ j b, j < 36 → W ≤ b → b < 12 → td_bt (a11 j) b = false) (K : qost (nI (td_ct W H p a11 (16 * H))) (nI W, nI H, fc, fs, a1, a2, a3, a4, a5, a6, a7, a8, a9, a10, a11, a12)) :
    wpX_occurrences qost (nI W, nI H, fc, fs, a1, a2, a3, a4, a5, a6, a7, a8, a9, a10, a11, a12) (nI p) := by
  unfold wpX_occurrences
  refine td_isP hp (td_no1 (td_srch1 hs ?_))
  show ∃ fu18 : Nat, wX_occurrences_18 qost (nI p) (nI W) (nI H) fc fs a1 a2 a3 a4 a5 a6 a7 a8 a9 a10 a11 a12 fu18 0 0
  refine pk_loop (σ := Int32) (fun n i t => wX_occurrences_18 qost (nI p) (nI W) (nI H) fc fs a1 a2 a3 a4 a5 a6 a7 a8 a9 a10 a11 a12 n t (nI i)) (fun i s => s = nI (td_ct W H p a11 (16 * i))) H 0 0 (by omega) rfl ?_ ?_
  · intro n s h
    subst h
    exact pk_le H H (fun _ => K) (fun z => absurd z (by omega))
  · intro n y s hy h hw
    subst h
    refine pk_le H y (fun z => absurd z (by omega)) (fun _ => ⟨pk_in (12 * p + y) 36 (by omega) (td_i12 p y), td_bits (p := p) hW (fun b h1 h2 => hF _ b (by omega) h1 h2) hy (td_rd (td_i12 p y) (by omega) rfl) (fun t ht => nm_r (nI_add _ _) (nm_r (nI_1 y) (hw _ ?_)))⟩)
    rw [ht]
/-- one round of met: what it asks of the rounds behind it -/
theorem td_m30a {J : (Int32 → Int32 → Int32 → Int32 → Int32 → Int32 → Int32 → (Nat → Int32) → (Nat → Int32) → (Nat → Int32) → (Nat → Int32) → (Nat → Int32) → (Nat → Int32) → (Nat → Int32) → (Nat → Int32) → (Nat → Int32) → (Nat → Int32) → (Nat → Int32) → (Nat → Int32) → Prop)} {f k : Nat} (hW : W ≤ 12) (hH : H ≤ 12) (hs : ¬ fs = 0) (hp : p < 3) (hk : k < 1000) (hfH : f ≤ 16 * H) (hf : td_ct W H p a11 f = k)
    (K1 : ∀ f', f' ≤ 16 * H → td_ct W H p a11 f' = k + 1 → J (nI (k + 1)) (nI f') (nI (k + 1)) (nI W) (nI H) fc fs a1 a2 a3 a4 a5 a6 a7 a8 a9 a10 a11 a12)
    (K2 : td_ct W H p a11 (16 * H) = k → J (nI k) (-1) (nI (k + 1)) (nI W) (nI H) fc fs a1 a2 a3 a4 a5 a6 a7 a8 a9 a10 a11 a12) :
    td_NX W H p a11 f (fun r => wL_met_30 qost J (nI p) (nI k) (nI f) (nI k) r (nI W) (nI H) fc fs a1 a2 a3 a4 a5 a6 a7 a8 a9 a10 a11 a12) := by
  refine ⟨fun c hc hg hl => ?_, fun hn => ?_⟩
  · obtain ⟨g1, g2, g3⟩ := td_gd_e hg
    have e1 : nI c &&& 15 = nI (c % 16) := pk_andN (by omega) 4 (by decide)
    have e2 : nI c >>> ((4 : Int32) &&& 31) = nI (c / 16) := pk_shrN (by omega) _ 4 (by decide)
    refine pk_lt c 0 (fun z => absurd z (by omega)) (fun _ => pk_lt c f (fun z => absurd z (by omega)) (fun _ => ?_))
    rw [e1, e2]
    refine td_occ1 hW hH hs hp g1 g2 g3 (td_no1 (nm_r (nI_1 k) ?_))
    refine pk_le 0 c (fun _ => nm_r (nI_1 c) (nm_r (nI_1 k) (K1 (c + 1) (by omega) ?_))) (fun z => absurd z (by omega))
    rw [td_ct_1 hg, td_ct_to hc hl, hf]
  · refine And.intro (fun _ => And.intro (fun z => absurd z (by decide)) (fun _ => nm_r (nI_1 k) (K2 ?_))) (fun z => absurd (by decide) z)
    rw [td_ct_to hfH hn, hf]
/-- the rounds of met over a searched state -/
theorem td_met7 (hW : W ≤ 12) (hH : H ≤ 12) (hs : ¬ fs = 0) (hp : p < 3) (hF : ∀ j b, j < 36 → W ≤ b → b < 12 → td_bt (a11 j) b = false) (K : qost 1 (nI W, nI H, fc, fs, a1, a2, a3, a4, a5, a6, a7, a8, a9, a10, a11, a12)) :
    ∀ n k (s : Int32 × Int32), k ≤ 145 → 145 - k < n →
      ((∃ f, s.1 = nI k ∧ s.2 = nI f ∧ f ≤ 16 * H ∧ td_ct W H p a11 f = k) ∨ (s.1 = nI (td_ct W H p a11 (16 * H)) ∧ s.2 = -1)) →
      wL_met_7 qost (nI p) n s.1 s.2 (nI k) (nI W) (nI H) fc fs a1 a2 a3 a4 a5 a6 a7 a8 a9 a10 a11 a12 := by
  refine loop_i (σ := Int32 × Int32) (fun n k s => wL_met_7 qost (nI p) n s.1 s.2 (nI k) (nI W) (nI H) fc fs a1 a2 a3 a4 a5 a6 a7 a8 a9 a10 a11 a12) (fun k s => (∃ f, s.1 = nI k ∧ s.2 = nI f ∧ f ≤ 16 * H ∧ td_ct W H p a11 f = k) ∨ (s.1 = nI (td_ct W H p a11 (16 * H)) ∧ s.2 = -1)) 145 ?_ ?_
  · intro n s h
    obtain ⟨s1, s2⟩ := s
    rcases h with ⟨f, _, _, h1, h2⟩ | ⟨h1, h2⟩
    · have := td_ct_le (H := H) (p := p) (G := a11) hW f
      omega
    · dsimp only at h1 h2
      subst h1 h2
      exact pk_le 145 145 (fun _ => td_occs hW hH hs hp hF ⟨fun _ => K, fun z => absurd rfl z⟩) (fun z => absurd z (by omega))
  · intro n k s hk h hw
    obtain ⟨s1, s2⟩ := s
    refine pk_le 145 k (fun z => absurd z (by omega)) (fun _ => ?_)
    rcases h with ⟨f, h1, h2, h3, h4⟩ | ⟨h1, h2⟩
    · dsimp only at h1 h2
      subst h1 h2
      refine pk_le 0 f (fun _ => td_next1 hW hH hs hp (by omega) ?_) (fun z => absurd z (by omega))
      exact td_m30a hW hH hs hp (by omega) h3 h4 (fun f' k1 k2 => hw (nI (k + 1), nI f') (Or.inl ⟨f', rfl, rfl, k1, k2⟩)) (fun k1 => hw (nI k, -1) (Or.inr ⟨by rw [k1], rfl⟩))
    · dsimp only at h1 h2
      subst h1 h2
      refine And.intro (fun z => absurd (show (0 : Int32) ≤ -1 from z) (by decide)) (fun _ => ?_)
      exact And.intro (fun _ => And.intro (fun z => absurd z (by decide)) (fun _ => nm_r (nI_1 k) (hw (nI (td_ct W H p a11 (16 * H)), -1) (Or.inr ⟨rfl, rfl⟩)))) (fun z => absurd (by decide) z)
theorem td_met (hC : td_C W H T pw ph P) (hV : td_V T pw ph P a1 a2 a3 a4) (h0 : fs = 0 ∨ td_GF W H T pw ph P a11) (hp : p < 3)
    (K : ∀ (gc gs : Int32) (g5 g6 g7 g8 g9 g10 g11 g12 : Nat → Int32), td_GF W H T pw ph P g11 → qost 1 (nI W, nI H, gc, gs, a1, a2, a3, a4, g5, g6, g7, g8, g9, g10, g11, g12)) :
    wpL_met qost (nI W, nI H, fc, fs, a1, a2, a3, a4, a5, a6, a7, a8, a9, a10, a11, a12) (nI p) := by
  have c2 := hC.2.1
  have c4 := hC.2.2.2.1
  show ∃ fu7 : Nat, wL_met_7 qost (nI p) fu7 0 0 0 (nI W) (nI H) fc fs a1 a2 a3 a4 a5 a6 a7 a8 a9 a10 a11 a12
  refine ⟨146, pk_le 145 0 (fun z => absurd z (by omega)) (fun _ => pk_le 0 0 (fun _ => ?_) (fun z => absurd z (by omega)))⟩
  refine td_next0 (f := 0) hC hV h0 hp (by omega) (fun gc gs g5 g6 g7 g8 g9 g10 g11 g12 hgs hG => ?_)
  have go := td_met7 (qost := qost) (fc := gc) (fs := gs) (a1 := a1) (a2 := a2) (a3 := a3) (a4 := a4) (a5 := g5) (a6 := g6) (a7 := g7) (a8 := g8) (a9 := g9) (a10 := g10) (a11 := g11) (a12 := g12) c2 c4 hgs hp hG.1 (K gc gs g5 g6 g7 g8 g9 g10 g11 g12 hG) 145 1
  exact td_m30a (f := 0) (k := 0) c2 c4 hgs hp (by omega) (by omega) rfl (fun f' k1 k2 => go (nI 1, nI f') (by omega) (by omega) (Or.inl ⟨f', rfl, rfl, k1, k2⟩)) (fun k1 => go (nI 0, -1) (by omega) (by omega) (Or.inr ⟨by rw [k1], rfl⟩))
end
end
section
/-! what stands between the calls of the law -/
def td_OK (W H : Nat) (u : St2) : Prop := match u with
  | (fw, fh, fc, fs, a1, a2, a3, a4, a5, a6, a7, a8, a9, a10, a11, a12) => fw = nI W ∧ fh = nI H ∧ ∃ T pw ph P : Nat → Nat, td_C W H T pw ph P ∧ td_V T pw ph P a1 a2 a3 a4 ∧ (fs = 0 ∨ td_GF W H T pw ph P a11)
/-- the same, and the pattern p lies at (x, y) -/
def td_OKm (W H p x y : Nat) (u : St2) : Prop := match u with
  | (fw, fh, fc, fs, a1, a2, a3, a4, a5, a6, a7, a8, a9, a10, a11, a12) => fw = nI W ∧ fh = nI H ∧ ∃ T pw ph P : Nat → Nat, td_C W H T pw ph P ∧ td_V T pw ph P a1 a2 a3 a4 ∧ fs = 0 ∧ x + pw p ≤ W ∧ y + ph p ≤ H ∧ (∀ i j, i < ph p → j < pw p → T (12 * (y + i) + x + j) = P (16 * p + 4 * i + j))
section
variable {post : St2 → Prop} {qost : Int32 → St2 → Prop} {rost : Int32 → Prop} {fw fh fc fs : Int32} {a1 a2 a3 a4 a5 a6 a7 a8 a9 a10 a11 a12 : Nat → Int32} {W H p : Nat} {T pw ph P : Nat → Nat}
theorem td_OK_i (hC : td_C W H T pw ph P) (hV : td_V T pw ph P a1 a2 a3 a4) (h0 : fs = 0 ∨ td_GF W H T pw ph P a11) : td_OK W H (nI W, nI H, fc, fs, a1, a2, a3, a4, a5, a6, a7, a8, a9, a10, a11, a12) := And.intro rfl (And.intro rfl ⟨T, pw, ph, P, hC, hV, h0⟩)
theorem td_OKm_i {x y : Nat} (hC : td_C W H T pw ph P) (hV : td_V T pw ph P a1 a2 a3 a4) (h0 : fs = 0) (hx : x + pw p ≤ W) (hy : y + ph p ≤ H) (hm : ∀ i j, i < ph p → j < pw p → T (12 * (y + i) + x + j) = P (16 * p + 4 * i + j)) :
    td_OKm W H p x y (nI W, nI H, fc, fs, a1, a2, a3, a4, a5, a6, a7, a8, a9, a10, a11, a12) := And.intro rfl (And.intro rfl ⟨T, pw, ph, P, hC, hV, h0, hx, hy, hm⟩)
theorem td_write {x y v : Nat} (hx : x < 8) (hy : y < 8) (hv : v < 4) (h : td_OK W H (fw, fh, fc, fs, a1, a2, a3, a4, a5, a6, a7, a8, a9, a10, a11, a12)) (K : ∀ r u, td_OK W H u → qost r u) : wpX_write qost (fw, fh, fc, fs, a1, a2, a3, a4, a5, a6, a7, a8, a9, a10, a11, a12) (nI x) (nI y) (nI v) := by
  have hh := h
  obtain ⟨rfl, rfl, T, pw, ph, P, hC, hV, h0⟩ := h
  obtain ⟨c1, c2, c3, c4, hT, hpw, hph, hP⟩ := hC
  obtain ⟨h1, h2, h3, h4⟩ := hV
  unfold wpX_write
  refine td_inT c2 c4 (by omega) (by omega) (fun kx ky => td_no1 (pk_lt v 0 (fun z => absurd z (by omega)) (fun _ => pk_le v 2 (fun z => ⟨pk_in (12 * y + x) 144 (by omega) (td_i12 y x), nm_r (td_up (td_i12 y x) (by omega) (td_b8 v (by omega))) (K 1 _ ?_)⟩) (fun _ => K 0 _ hh)))) (fun _ => td_no0 (K 0 _ hh))
  exact td_OK_i (T := td_uN T (12 * y + x) v) ⟨c1, c2, c3, c4, td_uN_lt hT (by omega), hpw, hph, hP⟩ ⟨td_pic_u h1, h2, h3, h4⟩ (Or.inl rfl)
theorem td_shape {w h : Nat} (hp : p < 3) (hw : 1 ≤ w ∧ w ≤ 2) (hh : 1 ≤ h ∧ h ≤ 2) (hO : td_OK W H (fw, fh, fc, fs, a1, a2, a3, a4, a5, a6, a7, a8, a9, a10, a11, a12)) (K : ∀ r u, td_OK W H u → qost r u) : wpX_shape qost (fw, fh, fc, fs, a1, a2, a3, a4, a5, a6, a7, a8, a9, a10, a11, a12) (nI p) (nI w) (nI h) := by
  obtain ⟨rfl, rfl, T, pw, ph, P, hC, hV, h0⟩ := hO
  obtain ⟨c1, c2, c3, c4, hT, hpw, hph, hP⟩ := hC
  obtain ⟨h1, h2, h3, h4⟩ := hV
  unfold wpX_shape
  refine td_isP hp (td_no1 (pk_lt w 1 (fun z => absurd z (by omega)) (fun _ => pk_lt 4 w (fun z => absurd z (by omega)) (fun _ => pk_lt h 1 (fun z => absurd z (by omega)) (fun _ => pk_le h 4 (fun _ => ?_) (fun z => absurd z (by omega)))))))
  refine ⟨pk_in p 3 hp, nm_r (td_up rfl (by omega) (td_b8 w (by omega))) ⟨pk_in p 3 hp, nm_r (td_up rfl (by omega) (td_b8 h (by omega))) ?_⟩⟩
  have up2 : ∀ {F : Nat → Nat} {v : Nat}, (∀ q, 1 ≤ F q ∧ F q ≤ 2) → 1 ≤ v ∧ v ≤ 2 → ∀ q, 1 ≤ td_uN F p v q ∧ td_uN F p v q ≤ 2 := by
    intro F v hF hv q
    by_cases e : q = p
    · rw [e, td_uNs]; exact hv
    · rw [td_uNn e]; exact hF q
  refine pk_loop (σ := Nat → Int32) (fun n i t => wX_shape_49 qost (nI p) (nI W) (nI H) fc fs n (nI i) a1 (upd a2 p (nI w)) (upd a3 p (nI h)) t a5 a6 a7 a8 a9 a10 a11 a12) (fun i t => ∃ P, td_pic t P 48 ∧ ∀ j, P j < 3) 16 0 a4 (by omega) ⟨P, h4, hP⟩ ?_ ?_
  · intro n t ht
    obtain ⟨P', g1, g2⟩ := ht
    refine pk_le 16 16 (fun _ => K 1 _ ?_) (fun z => absurd z (by omega))
    exact td_OK_i (T := T) (pw := td_uN pw p w) (ph := td_uN ph p h) (P := P') ⟨c1, c2, c3, c4, hT, up2 hpw hw, up2 hph hh, g2⟩ ⟨h1, td_pic_u h2, td_pic_u h3, g1⟩ (Or.inl rfl)
  · intro n i t hi ht kw
    obtain ⟨P', g1, g2⟩ := ht
    refine pk_le 16 i (fun z => absurd z (by omega)) (fun _ => ⟨pk_in (16 * p + i) 48 (by omega) (td_i16c p i), nm_r (td_up (v' := nI 0) (td_i16c p i) (by omega) rfl) (nm_r (nI_1 i) (kw (upd t (16 * p + i) (nI 0)) ⟨_, td_pic_u g1, td_uN_lt g2 (by omega)⟩))⟩)
theorem td_paint {x y v : Nat} (hp : p < 3) (hx : x < 2) (hy : y < 2) (hv : v < 4) (h : td_OK W H (fw, fh, fc, fs, a1, a2, a3, a4, a5, a6, a7, a8, a9, a10, a11, a12)) (K : ∀ r u, td_OK W H u → qost r u) : wpX_paint qost (fw, fh, fc, fs, a1, a2, a3, a4, a5, a6, a7, a8, a9, a10, a11, a12) (nI p) (nI x) (nI y) (nI v) := by
  have hh := h
  obtain ⟨rfl, rfl, T, pw, ph, P, hC, hV, h0⟩ := h
  obtain ⟨c1, c2, c3, c4, hT, hpw, hph, hP⟩ := hC
  obtain ⟨h1, h2, h3, h4⟩ := hV
  have e2 : a2 (nI p).toNatClampNeg = nI (pw p) := td_rd rfl (by omega) (h2 p hp)
  have e3 : a3 (nI p).toNatClampNeg = nI (ph p) := td_rd rfl (by omega) (h3 p hp)
  have hpwp := hpw p
  have hphp := hph p
  unfold wpX_paint
  refine td_isP hp (td_no1 (pk_lt v 0 (fun z => absurd z (by omega)) (fun _ => pk_le v 2 (fun z => ?_) (fun _ => K 0 _ hh))))
  refine pk_lt x 0 (fun z => absurd z (by omega)) (fun _ => ⟨pk_in p 3 hp, pk_le (pw p) x (fun _ => K 0 _ hh) (fun _ => pk_lt y 0 (fun z => absurd z (by omega)) (fun _ => ⟨pk_in p 3 hp, pk_lt y (ph p) (fun _ => ?_) (fun _ => K 0 _ hh) rfl e3⟩)) e2⟩)
  refine ⟨pk_in (16 * p + 4 * y + x) 48 (by omega) (td_i164 p y x), nm_r (td_up (td_i164 p y x) (by omega) (td_b8 v (by omega))) (K 1 _ ?_)⟩
  exact td_OK_i (P := td_uN P (16 * p + 4 * y + x) v) ⟨c1, c2, c3, c4, hT, hpw, hph, td_uN_lt hP (by omega)⟩ ⟨h1, h2, h3, td_pic_u h4⟩ (Or.inl rfl)
theorem td_fits {x y : Nat} (hC : td_C W H T pw ph P) (hV : td_V T pw ph P a1 a2 a3 a4) (hp : p < 3) (hx : x < 1000) (hy : y < 1000) (h1 : x + pw p ≤ W → y + ph p ≤ H → rost 1) (h0 : rost 0) : wpX_fits rost (nI W, nI H, fc, fs, a1, a2, a3, a4, a5, a6, a7, a8, a9, a10, a11, a12) (nI p) (nI x) (nI y) := by
  obtain ⟨c1, c2, c3, c4, hT, hpw, hph, hP⟩ := hC
  obtain ⟨_, h2, h3, _⟩ := hV
  have hpwp := hpw p
  have hphp := hph p
  have e2 : nI W - a2 (nI p).toNatClampNeg = nI (W - pw p) := by rw [td_rd rfl (by omega) (h2 p hp), pk_sub (by omega)]
  have e3 : nI H - a3 (nI p).toNatClampNeg = nI (H - ph p) := by rw [td_rd rfl (by omega) (h3 p hp), pk_sub (by omega)]
  exact pk_lt x 0 (fun z => absurd z (by omega)) (fun _ => ⟨pk_in p 3 hp, pk_lt (W - pw p) x (fun _ => h0) (fun z1 => pk_lt y 0 (fun z => absurd z (by omega)) (fun _ => ⟨pk_in p 3 hp, pk_lt (H - ph p) y (fun _ => h0) (fun z2 => h1 (by omega) (by omega)) e3⟩)) e2⟩)
theorem td_copy {x y : Nat} (hp : p < 3) (hx : x < 8) (hy : y < 8) (h : td_OK W H (fw, fh, fc, fs, a1, a2, a3, a4, a5, a6, a7, a8, a9, a10, a11, a12)) (K0 : ∀ u, td_OK W H u → qost 0 u) (K1 : ∀ u, td_OKm W H p x y u → qost 1 u) : wpX_copy qost (fw, fh, fc, fs, a1, a2, a3, a4, a5, a6, a7, a8, a9, a10, a11, a12) (nI p) (nI x) (nI y) := by
  have hh := h
  obtain ⟨rfl, rfl, T, pw, ph, P, hC, hV, h0⟩ := h
  have hCC := hC
  have hVV := hV
  obtain ⟨c1, c2, c3, c4, hT, hpw, hph, hP⟩ := hC
  obtain ⟨h1, h2, h3, h4⟩ := hV
  have e2 : a2 (nI p).toNatClampNeg = nI (pw p) := td_rd rfl (by omega) (h2 p hp)
  have e3 : a3 (nI p).toNatClampNeg = nI (ph p) := td_rd rfl (by omega) (h3 p hp)
  have hpwp := hpw p
  have hphp := hph p
  unfold wpX_copy
  refine td_isP hp (td_no1 (td_fits hCC hVV hp (by omega) (by omega) (fun kx ky => td_no1 ?_) (td_no0 (K0 _ hh))))
  refine pk_loop (σ := Nat → Int32) (fun n i t => wX_copy_23 qost (nI p) (nI x) (nI y) (nI W) (nI H) fc fs n (nI i) a1 a2 a3 t a5 a6 a7 a8 a9 a10 a11 a12)
    (fun i t => ∃ P, td_pic t P 48 ∧ (∀ j, P j < 3) ∧ ∀ i' j, i' < i → j < pw p → T (12 * (y + i') + x + j) = P (16 * p + 4 * i' + j)) (ph p) 0 a4 (by omega) ⟨P, h4, hP, fun i' j hi' => absurd hi' (by omega)⟩ ?_ ?_
  · intro n t ht
    obtain ⟨P', g1, g2, g3⟩ := ht
    refine And.intro (pk_in p 3 hp) (pk_le (ph p) (ph p) (fun _ => K1 _ ?_) (fun z => absurd z (by omega)) e3)
    exact td_OKm_i (P := P') ⟨c1, c2, c3, c4, hT, hpw, hph, g2⟩ ⟨h1, h2, h3, g1⟩ rfl kx ky g3
  · intro n i t hi ht kw
    obtain ⟨P', g1, g2, g3⟩ := ht
    refine And.intro (pk_in p 3 hp) (pk_le (ph p) i (fun z => absurd z (by omega)) (fun _ => ?_) e3)
    refine pk_loop (σ := Nat → Int32) (fun m j s => wX_copy_37 qost (wX_copy_23 qost (nI p) (nI x) (nI y) (nI W) (nI H) fc fs n) (nI p) (nI x) (nI y) (nI i) (nI W) (nI H) fc fs m (nI j) a1 a2 a3 s a5 a6 a7 a8 a9 a10 a11 a12)
      (fun j s => ∃ P, td_pic s P 48 ∧ (∀ j, P j < 3) ∧ ∀ i' j', (i' < i ∨ (i' = i ∧ j' < j)) → j' < pw p → T (12 * (y + i') + x + j') = P (16 * p + 4 * i' + j')) (pw p) 0 t (by omega)
      ⟨P', g1, g2, fun i' j' q hj' => g3 i' j' (by omega) hj'⟩ ?_ ?_
    · intro m s hs
      obtain ⟨P'', f1, f2, f3⟩ := hs
      exact And.intro (pk_in p 3 hp) (pk_le (pw p) (pw p) (fun _ => nm_r (nI_1 i) (kw s ⟨P'', f1, f2, fun i' j' q hj' => f3 i' j' (by omega) hj'⟩)) (fun z => absurd z (by omega)) e2)
    · intro m j s hj hs jw
      obtain ⟨P'', f1, f2, f3⟩ := hs
      have ia := td_i12b y i x j
      have ib := td_i164 p i j
      have ra : a1 (((12 : Int32) * (nI y + nI i) + nI x) + nI j).toNatClampNeg = nI (T (12 * (y + i) + x + j)) := td_pic_rd h1 ia (by omega) (by omega)
      have hTt := hT (12 * (y + i) + x + j)
      refine And.intro (pk_in p 3 hp) (pk_le (pw p) j (fun z => absurd z (by omega)) (fun _ => ⟨pk_in _ 144 (by omega) ia, pk_in _ 48 (by omega) ib, nm_r (td_up (v' := nI (T (12 * (y + i) + x + j))) ib (by omega) (by rw [ra, td_vb (by omega)])) (nm_r (nI_1 j) (jw (upd s (16 * p + 4 * i + j) (nI (T (12 * (y + i) + x + j)))) ⟨_, td_pic_u f1, td_uN_lt f2 hTt, fun i' j' q hj' => ?_⟩))⟩) e2)
      by_cases e : i' = i ∧ j' = j
      · obtain ⟨rfl, rfl⟩ := e
        rw [td_uNs]
      · rw [td_uNn (by omega)]
        exact f3 i' j' (by omega) hj'
theorem td_stamp {x y : Nat} (hp : p < 3) (hx : x < 8) (hy : y < 8) (h : td_OK W H (fw, fh, fc, fs, a1, a2, a3, a4, a5, a6, a7, a8, a9, a10, a11, a12)) (K0 : ∀ u, td_OK W H u → qost 0 u) (K1 : ∀ u, td_OKm W H p x y u → qost 1 u) : wpX_stamp qost (fw, fh, fc, fs, a1, a2, a3, a4, a5, a6, a7, a8, a9, a10, a11, a12) (nI p) (nI x) (nI y) := by
  have hh := h
  obtain ⟨rfl, rfl, T, pw, ph, P, hC, hV, h0⟩ := h
  have hCC := hC
  have hVV := hV
  obtain ⟨c1, c2, c3, c4, hT, hpw, hph, hP⟩ := hC
  obtain ⟨h1, h2, h3, h4⟩ := hV
  have e2 : a2 (nI p).toNatClampNeg = nI (pw p) := td_rd rfl (by omega) (h2 p hp)
  have e3 : a3 (nI p).toNatClampNeg = nI (ph p) := td_rd rfl (by omega) (h3 p hp)
  have hpwp := hpw p
  have hphp := hph p
  unfold wpX_stamp
  refine td_isP hp (td_no1 (td_fits hCC hVV hp (by omega) (by omega) (fun kx ky => td_no1 ?_) (td_no0 (K0 _ hh))))
  refine pk_loop (σ := Nat → Int32) (fun n i t => wX_stamp_23 qost (nI p) (nI x) (nI y) (nI W) (nI H) fc fs n (nI i) t a2 a3 a4 a5 a6 a7 a8 a9 a10 a11 a12)
    (fun i t => ∃ T, td_pic t T 144 ∧ (∀ j, T j < 3) ∧ ∀ i' j, i' < i → j < pw p → T (12 * (y + i') + x + j) = P (16 * p + 4 * i' + j)) (ph p) 0 a1 (by omega) ⟨T, h1, hT, fun i' j hi' => absurd hi' (by omega)⟩ ?_ ?_
  · intro n t ht
    obtain ⟨T', g1, g2, g3⟩ := ht
    refine And.intro (pk_in p 3 hp) (pk_le (ph p) (ph p) (fun _ => K1 _ ?_) (fun z => absurd z (by omega)) e3)
    exact td_OKm_i (T := T') ⟨c1, c2, c3, c4, g2, hpw, hph, hP⟩ ⟨g1, h2, h3, h4⟩ rfl kx ky g3
  · intro n i t hi ht kw
    obtain ⟨T', g1, g2, g3⟩ := ht
    refine And.intro (pk_in p 3 hp) (pk_le (ph p) i (fun z => absurd z (by omega)) (fun _ => ?_) e3)
    refine pk_loop (σ := Nat → Int32) (fun m j s => wX_stamp_37 qost (wX_stamp_23 qost (nI p) (nI x) (nI y) (nI W) (nI H) fc fs n) (nI p) (nI x) (nI y) (nI i) (nI W) (nI H) fc fs m (nI j) s a2 a3 a4 a5 a6 a7 a8 a9 a10 a11 a12)
      (fun j s => ∃ T, td_pic s T 144 ∧ (∀ j, T j < 3) ∧ ∀ i' j', (i' < i ∨ (i' = i ∧ j' < j)) → j' < pw p → T (12 * (y + i') + x + j') = P (16 * p + 4 * i' + j')) (pw p) 0 t (by omega)
      ⟨T', g1, g2, fun i' j' q hj' => g3 i' j' (by omega) hj'⟩ ?_ ?_
    · intro m s hs
      obtain ⟨T'', f1, f2, f3⟩ := hs
      exact And.intro (pk_in p 3 hp) (pk_le (pw p) (pw p) (fun _ => nm_r (nI_1 i) (kw s ⟨T'', f1, f2, fun i' j' q hj' => f3 i' j' (by omega) hj'⟩)) (fun z => absurd z (by omega)) e2)
    · intro m j s hj hs jw
      obtain ⟨T'', f1, f2, f3⟩ := hs
      have ia := td_i12b y i x j
      have ib := td_i164 p i j
      have rb : a4 (((16 : Int32) * nI p + 4 * nI i) + nI j).toNatClampNeg = nI (P (16 * p + 4 * i + j)) := td_pic_rd h4 ib (by omega) (by omega)
      have hPp := hP (16 * p + 4 * i + j)
      refine And.intro (pk_in p 3 hp) (pk_le (pw p) j (fun z => absurd z (by omega)) (fun _ => ⟨pk_in _ 48 (by omega) ib, pk_in _ 144 (by omega) ia, nm_r (td_up (v' := nI (P (16 * p + 4 * i + j))) ia (by omega) (by rw [rb, td_vb (by omega)])) (nm_r (nI_1 j) (jw (upd s (12 * (y + i) + x + j) (nI (P (16 * p + 4 * i + j)))) ⟨_, td_pic_u f1, td_uN_lt f2 hPp, fun i' j' q hj' => ?_⟩))⟩) e2)
      by_cases e : i' = i ∧ j' = j
      · obtain ⟨rfl, rfl⟩ := e
        rw [td_uNs]
      · rw [td_uNn (by omega)]
        exact f3 i' j' (by omega) hj'
end
end
section
theorem td_ge4 {x : Int32} (h4 : 4 ≤ x) (h12 : x ≤ 12) : ∃ W : Nat, 4 ≤ W ∧ W ≤ 12 ∧ x = nI W := by
  have k4 : (4 : Int32).toInt = 4 := by decide
  have k12 : (12 : Int32).toInt = 12 := by decide
  have k13 : (nI 13).toInt = 13 := by decide
  have k0 : (0 : Int32).toInt = 0 := by decide
  rw [Int32.le_iff_toInt_le] at h4 h12
  rcases pk_ix x (n := 13) (by omega) with h | h | ⟨j, hj, e⟩
  · rw [Int32.lt_iff_toInt_lt] at h; omega
  · rw [Int32.le_iff_toInt_le] at h; omega
  · have := nI_toInt (n := j) (by omega)
    rw [e] at h4 h12
    exact ⟨j, by omega, by omega, e⟩
theorem td_lL {L k : Nat} (hL : L ≤ 260) (hk : k < 1000) : (Int32.ofNat L - 4 < nI k) ↔ L < k + 4 := by
  have e1 : (nI L - nI 4).toInt = (L : Int) - (4 : Nat) := pk_sub_toInt (by omega) (by omega)
  have e2 := nI_toInt (n := k) (by omega)
  show nI L - nI 4 < nI k ↔ _
  rw [Int32.lt_iff_toInt_lt, e1, e2]
  omega
section
variable {post : Int32 → Prop} {L : Nat} {xs : Nat → Int32} {fw fh fc fs : Int32} {a1 a2 a3 a4 a5 a6 a7 a8 a9 a10 a11 a12 : Nat → Int32} {W H p : Nat}
/-- met answers true, over any state that stands -/
theorem td_metOK {qost : Int32 → St2 → Prop} (hp : p < 3) (h : td_OK W H (fw, fh, fc, fs, a1, a2, a3, a4, a5, a6, a7, a8, a9, a10, a11, a12)) (K : ∀ u, td_OK W H u → qost 1 u) : wpL_met qost (fw, fh, fc, fs, a1, a2, a3, a4, a5, a6, a7, a8, a9, a10, a11, a12) (nI p) := by
  obtain ⟨rfl, rfl, T, pw, ph, P, hC, hV, h0⟩ := h
  exact td_met hC hV h0 hp (fun gc gs g5 g6 g7 g8 g9 g10 g11 g12 hG => K _ (td_OK_i hC hV (Or.inr hG)))
/-- occurs answers true where the pattern lies -/
theorem td_occOK {qost : Int32 → St2 → Prop} {x y : Nat} (hp : p < 3) (h : td_OKm W H p x y (fw, fh, fc, fs, a1, a2, a3, a4, a5, a6, a7, a8, a9, a10, a11, a12)) (K : ∀ u, td_OK W H u → qost 1 u) : wpX_occurs qost (fw, fh, fc, fs, a1, a2, a3, a4, a5, a6, a7, a8, a9, a10, a11, a12) (nI p) (nI x) (nI y) := by
  obtain ⟨rfl, rfl, T, pw, ph, P, hC, hV, h0, hx, hy, hm⟩ := h
  have hpw := hC.2.2.2.2.2.1 p
  have hph := hC.2.2.2.2.2.2.1 p
  refine td_occ0 hC hV (Or.inl h0) hp (by omega) (by omega) (fun gc gs g5 g6 g7 g8 g9 g10 g11 g12 hgs hG => ⟨fun z => ?_, fun _ => K _ (td_OK_i hC hV (Or.inr hG))⟩)
  rw [hG.2 p x y hp hx hy hm] at z
  exact absurd z (by decide)
theorem td_211 {J : (Int32 → Int32 → Int32 → Int32 → Int32 → (Nat → Int32) → (Nat → Int32) → (Nat → Int32) → (Nat → Int32) → (Nat → Int32) → (Nat → Int32) → (Nat → Int32) → (Nat → Int32) → (Nat → Int32) → (Nat → Int32) → (Nat → Int32) → (Nat → Int32) → Prop)} {k kc ks : Nat} (hp : p < 3) (h : td_OK W H (fw, fh, fc, fs, a1, a2, a3, a4, a5, a6, a7, a8, a9, a10, a11, a12))
    (K : ∀ (gw gh gc gs : Int32) (b1 b2 b3 b4 b5 b6 b7 b8 b9 b10 b11 b12 : Nat → Int32), td_OK W H (gw, gh, gc, gs, b1, b2, b3, b4, b5, b6, b7, b8, b9, b10, b11, b12) → J (nI (k + 4)) gw gh gc gs b1 b2 b3 b4 b5 b6 b7 b8 b9 b10 b11 b12) : wL_law_211 post L xs J (nI k) (nI p) kc ks fw fh fc fs a1 a2 a3 a4 a5 a6 a7 a8 a9 a10 a11 a12 := by
  refine td_metOK hp h (fun u hu => ?_)
  obtain ⟨gw, gh, gc, gs, b1, b2, b3, b4, b5, b6, b7, b8, b9, b10, b11, b12⟩ := u
  exact td_no1 (nm_r (nI_add k 4) (K _ _ _ _ _ _ _ _ _ _ _ _ _ _ _ _ hu))
theorem td_174 {J : (Int32 → Int32 → Int32 → Int32 → Int32 → (Nat → Int32) → (Nat → Int32) → (Nat → Int32) → (Nat → Int32) → (Nat → Int32) → (Nat → Int32) → (Nat → Int32) → (Nat → Int32) → (Nat → Int32) → (Nat → Int32) → (Nat → Int32) → (Nat → Int32) → Prop)} {k kc ks x y : Nat} (hp : p < 3) (hx : x < 8) (hy : y < 8) (h : td_OK W H (fw, fh, fc, fs, a1, a2, a3, a4, a5, a6, a7, a8, a9, a10, a11, a12))
    (K : ∀ (gw gh gc gs : Int32) (b1 b2 b3 b4 b5 b6 b7 b8 b9 b10 b11 b12 : Nat → Int32), td_OK W H (gw, gh, gc, gs, b1, b2, b3, b4, b5, b6, b7, b8, b9, b10, b11, b12) → J (nI (k + 4)) gw gh gc gs b1 b2 b3 b4 b5 b6 b7 b8 b9 b10 b11 b12) : wL_law_174 post L xs J (nI k) (nI p) (nI x) (nI y) kc ks fw fh fc fs a1 a2 a3 a4 a5 a6 a7 a8 a9 a10 a11 a12 := by
  refine td_stamp hp hx hy h (fun u hu => ?_) (fun u hu => ?_)
  · obtain ⟨gw, gh, gc, gs, b1, b2, b3, b4, b5, b6, b7, b8, b9, b10, b11, b12⟩ := u
    exact td_no0 (td_211 hp hu K)
  · obtain ⟨gw, gh, gc, gs, b1, b2, b3, b4, b5, b6, b7, b8, b9, b10, b11, b12⟩ := u
    refine td_no1 (td_occOK hp hu (fun u hu => ?_))
    obtain ⟨gw, gh, gc, gs, b1, b2, b3, b4, b5, b6, b7, b8, b9, b10, b11, b12⟩ := u
    exact td_no1 (td_211 hp hu K)
end
theorem td_law20 {L : Nat} {xs : Nat → Int32} {kc ks W H : Nat} (hL : L ≤ 260) : ∀ n k, k ≤ 300 → L < k + 4 + 4 * n → ∀ (fw fh fc fs : Int32) (a1 a2 a3 a4 a5 a6 a7 a8 a9 a10 a11 a12 : Nat → Int32), td_OK W H (fw, fh, fc, fs, a1, a2, a3, a4, a5, a6, a7, a8, a9, a10, a11, a12) →
    wL_law_20 (fun r => r = 1) L xs kc ks (n + 1) (nI k) fw fh fc fs a1 a2 a3 a4 a5 a6 a7 a8 a9 a10 a11 a12 := by
  intro n
  induction n with
  | zero =>
    intro k hk hn fw fh fc fs a1 a2 a3 a4 a5 a6 a7 a8 a9 a10 a11 a12 h
    refine And.intro (fun _ => ?_) (fun z => absurd ((td_lL hL (by omega)).mpr (by omega)) z)
    refine td_metOK (p := 0) (by omega) h (fun u hu => ?_)
    obtain ⟨gw, gh, gc, gs, b1, b2, b3, b4, b5, b6, b7, b8, b9, b10, b11, b12⟩ := u
    refine td_no1 (td_metOK (p := 1) (by omega) hu (fun u hu => ?_))
    obtain ⟨gw, gh, gc, gs, b1, b2, b3, b4, b5, b6, b7, b8, b9, b10, b11, b12⟩ := u
    refine td_no1 (td_metOK (p := 2) (by omega) hu (fun u hu => ?_))
    obtain ⟨gw, gh, gc, gs, b1, b2, b3, b4, b5, b6, b7, b8, b9, b10, b11, b12⟩ := u
    exact td_no1 rfl
  | succ n ih =>
    intro k hk hn fw fh fc fs a1 a2 a3 a4 a5 a6 a7 a8 a9 a10 a11 a12 h
    refine And.intro (fun _ => ?_) (fun z => ?_)
    · refine td_metOK (p := 0) (by omega) h (fun u hu => ?_)
      obtain ⟨gw, gh, gc, gs, b1, b2, b3, b4, b5, b6, b7, b8, b9, b10, b11, b12⟩ := u
      refine td_no1 (td_metOK (p := 1) (by omega) hu (fun u hu => ?_))
      obtain ⟨gw, gh, gc, gs, b1, b2, b3, b4, b5, b6, b7, b8, b9, b10, b11, b12⟩ := u
      refine td_no1 (td_metOK (p := 2) (by omega) hu (fun u hu => ?_))
      obtain ⟨gw, gh, gc, gs, b1, b2, b3, b4, b5, b6, b7, b8, b9, b10, b11, b12⟩ := u
      exact td_no1 rfl
    · rw [td_lL hL (by omega)] at z
      obtain ⟨p, hp, ep⟩ := pk_andE (xs (nI k + 1).toNatClampNeg) (m := 1) 1 (by decide)
      obtain ⟨x, hx, ex⟩ := pk_andE (xs (nI k + 2).toNatClampNeg) (m := 7) 3 (by decide)
      obtain ⟨y, hy, ey⟩ := pk_andE (xs (nI k + 3).toNatClampNeg) (m := 7) 3 (by decide)
      obtain ⟨v, hv, ev⟩ := pk_andE (xs (nI k + 1).toNatClampNeg >>> ((1 : Int32) &&& 31)) (m := 3) 2 (by decide)
      obtain ⟨q, hq, eq⟩ := pk_andE (xs (nI k).toNatClampNeg) (m := 7) 3 (by decide)
      have nx := fun (gw gh gc gs : Int32) (b1 b2 b3 b4 b5 b6 b7 b8 b9 b10 b11 b12 : Nat → Int32) => ih (k + 4) (by omega) (by omega) gw gh gc gs b1 b2 b3 b4 b5 b6 b7 b8 b9 b10 b11 b12
      have hp3 : p < 3 := by omega
      have ax : (1 : Int32) + (nI x &&& 1) = nI (1 + x % 2) := by
        rw [pk_andN (by omega) 1 (by decide)]; exact nI_add 1 _
      have ay : (1 : Int32) + (nI y &&& 1) = nI (1 + y % 2) := by
        rw [pk_andN (by omega) 1 (by decide)]; exact nI_add 1 _
      have bx : nI x &&& 1 = nI (x % 2) := pk_andN (by omega) 1 (by decide)
      have cy : nI y &&& 1 = nI (y % 2) := pk_andN (by omega) 1 (by decide)
      refine ⟨pk_in (k + 1) L (by omega) (nI_add k 1), nm_r ep ⟨pk_in (k + 2) L (by omega) (nI_add k 2), nm_r ex ⟨pk_in (k + 3) L (by omega) (nI_add k 3), nm_r ey ⟨pk_in (k + 1) L (by omega) (nI_add k 1), nm_r ev ⟨pk_in k L (by omega), nm_r eq ?_⟩⟩⟩⟩⟩
      refine pk_lt q 0 (fun z => absurd z (by omega)) (fun _ => pk_lt 4 q (fun _ => ?_) (fun _ => pk_eq q 0 (fun _ => ?_) (fun _ => pk_eq q 1 (fun _ => ?_) (fun _ => pk_eq q 2 (fun _ => ?_) (fun _ => pk_eq q 3 (fun _ => ?_) (fun _ => pk_eq q 4 (fun _ => ?_) (fun _ => trivial)))))))
      · refine td_write hx hy hv h (fun r u hu => ?_)
        obtain ⟨gw, gh, gc, gs, b1, b2, b3, b4, b5, b6, b7, b8, b9, b10, b11, b12⟩ := u
        exact td_211 hp3 hu nx
      · rw [ax, ay]
        refine td_shape hp3 (by omega) (by omega) h (fun r u hu => ?_)
        obtain ⟨gw, gh, gc, gs, b1, b2, b3, b4, b5, b6, b7, b8, b9, b10, b11, b12⟩ := u
        exact td_211 hp3 hu nx
      · rw [bx, cy]
        refine td_paint hp3 (by omega) (by omega) hv h (fun r u hu => ?_)
        obtain ⟨gw, gh, gc, gs, b1, b2, b3, b4, b5, b6, b7, b8, b9, b10, b11, b12⟩ := u
        exact td_211 hp3 hu nx
      · refine td_copy hp3 hx hy h (fun u hu => ?_) (fun u hu => ?_)
        · obtain ⟨gw, gh, gc, gs, b1, b2, b3, b4, b5, b6, b7, b8, b9, b10, b11, b12⟩ := u
          exact td_no0 (td_211 hp3 hu nx)
        · obtain ⟨gw, gh, gc, gs, b1, b2, b3, b4, b5, b6, b7, b8, b9, b10, b11, b12⟩ := u
          refine td_no1 (td_occOK hp3 hu (fun u hu => ?_))
          obtain ⟨gw, gh, gc, gs, b1, b2, b3, b4, b5, b6, b7, b8, b9, b10, b11, b12⟩ := u
          exact td_no1 (td_211 hp3 hu nx)
      · exact td_174 hp3 hx hy h nx
      · exact td_174 hp3 hx hy h nx
theorem td_153 {post : St2 → Prop} {mc ms kc ks W H : Nat} {fc : Int32} {a1 a2 a3 a4 a5 a6 a7 a8 a9 a10 a11 a12 : Nat → Int32} (hW : 4 ≤ W ∧ W ≤ 12) (hH : 4 ≤ H ∧ H ≤ 12) (h1 : ∀ j, a1 j = 0) (h4 : ∀ j, a4 j = 0)
    (K : ∀ u, td_OK W H u → post u) : ∃ n, wX_init_153 post mc ms kc ks (nI W) (nI H) fc 0 n 0 a1 a2 a3 a4 a5 a6 a7 a8 a9 a10 a11 a12 := by
  refine pk_loop (σ := (Nat → Int32) × (Nat → Int32) × (Nat → Int32)) (fun n i t => wX_init_153 post mc ms kc ks (nI W) (nI H) fc 0 n (nI i) a1 t.1 t.2.1 t.2.2 a5 a6 a7 a8 a9 a10 a11 a12)
    (fun i t => (∀ p, p < i → t.1 p = nI 1 ∧ t.2.1 p = nI 1) ∧ ∃ P, td_pic t.2.2 P 48 ∧ ∀ j, P j < 3) 3 0 (a2, a3, a4) (by omega) ⟨fun p hp => absurd hp (by omega), fun _ => 0, fun j _ => h4 j, fun _ => Nat.succ_pos 2⟩ ?_ ?_
  · intro n t ht
    obtain ⟨t2, t3, t4⟩ := t
    obtain ⟨g1, P, g2, g3⟩ := ht
    refine pk_le 3 3 (fun _ => K _ ?_) (fun z => absurd z (by omega))
    exact td_OK_i (T := fun _ => 0) (pw := fun _ => 1) (ph := fun _ => 1) (P := P) ⟨hW.1, hW.2, hH.1, hH.2, fun _ => Nat.succ_pos 2, fun _ => ⟨Nat.le_refl 1, Nat.le_succ 1⟩, fun _ => ⟨Nat.le_refl 1, Nat.le_succ 1⟩, g3⟩ ⟨fun j _ => h1 j, fun p hp => (g1 p hp).1, fun p hp => (g1 p hp).2, g2⟩ (Or.inl rfl)
  · intro n i t hi ht hw
    obtain ⟨t2, t3, t4⟩ := t
    obtain ⟨g1, P, g2, g3⟩ := ht
    dsimp only at g1 g2
    refine pk_le 3 i (fun z => absurd z (by omega)) (fun _ => ⟨pk_in i 3 hi, nm_r (td_up (v' := nI 1) rfl (by omega) rfl) ⟨pk_in i 3 hi, nm_r (td_up (v' := nI 1) rfl (by omega) rfl) ⟨pk_in (16 * i) 48 (by omega) (td_i16 i), nm_r (td_up (v' := nI 1) (td_i16 i) (by omega) rfl) (nm_r (nI_1 i) (hw (upd t2 i (nI 1), upd t3 i (nI 1), upd t4 (16 * i) (nI 1)) ⟨fun p hp => ?_, _, td_pic_u g2, td_uN_lt g3 (by omega)⟩))⟩⟩⟩)
    dsimp only
    by_cases e : p = i
    · rw [e, pk_us, pk_us]; exact ⟨rfl, rfl⟩
    · rw [pk_un e, pk_un e]; exact g1 p (by omega)
theorem td_123 {post : St2 → Prop} {mc ms kc ks W : Nat} {x fw fh fc : Int32} {a1 a2 a3 a4 a5 a6 a7 a8 a9 a10 a11 a12 : Nat → Int32} (hW : 4 ≤ W ∧ W ≤ 12) (h1 : ∀ j, a1 j = 0) (h4 : ∀ j, a4 j = 0)
    (K : ∀ H u, td_OK W H u → post u) : wX_init_123 post mc ms x (nI W) kc ks fw fh fc 0 a1 a2 a3 a4 a5 a6 a7 a8 a9 a10 a11 a12 := by
  refine br_c (fun z => br_c (fun z2 => ?_) (fun _ => td_153 (H := 12) hW (by omega) h1 h4 (K 12))) (fun _ => td_153 (H := 4) hW (by omega) h1 h4 (K 4))
  obtain ⟨H, k1, k2, e⟩ := td_ge4 z z2
  subst e
  exact td_153 (H := H) hW ⟨k1, k2⟩ h1 h4 (K H)
theorem td_init {post : St2 → Prop} {x y : Int32} (K : ∀ W H u, td_OK W H u → post u) : wpX_init post 12 689 (0, 0, 0, 0) x y := by
  show 1 ≤ 12 ∧ _
  refine ⟨by omega, by omega, by omega, by omega, by omega, by omega, by omega, by omega, by omega, by omega, by omega, by omega, by omega, by omega, by omega, by omega, by omega, by omega, by omega, by omega, by omega, by omega, by omega, by omega, ?_⟩
  refine br_c (fun z => br_c (fun z2 => ?_) (fun _ => td_123 (W := 12) (by omega) (fun _ => rfl) (fun _ => rfl) (K 12))) (fun _ => td_123 (W := 4) (by omega) (fun _ => rfl) (fun _ => rfl) (K 4))
  obtain ⟨W, k1, k2, e⟩ := td_ge4 z z2
  subst e
  exact td_123 (W := W) ⟨k1, k2⟩ (fun _ => rfl) (fun _ => rfl) (K W)
theorem td_cell {post : Int32 → Prop} {L : Nat} {xs : Nat → Int32} {k : Nat} (hL : L ≤ 260) (hk : k < 1000) (K : ∀ r, post r) : wpL_cell post L xs () (nI k) :=
  pk_le L k (fun _ => K 0) (fun z => ⟨pk_in k L z, K _⟩)
theorem i_vc (xs : Nat → Int32) (L : Nat) (hL : L ≤ 260) : wpL_law (fun r => r = 1) L xs := by
  refine td_cell (k := 0) hL (by omega) (fun r2 => td_cell (k := 1) hL (by omega) (fun r3 => ⟨12, 689, by omega, by omega, td_init (fun W H u hu => ?_)⟩))
  obtain ⟨gw, gh, gc, gs, b1, b2, b3, b4, b5, b6, b7, b8, b9, b10, b11, b12⟩ := u
  exact ⟨101, td_law20 hL 100 2 (by omega) (by omega) _ _ _ _ _ _ _ _ _ _ _ _ _ _ _ _ hu⟩
end
