section
/-! ===== bits (a family of the kit's BITS.to-paste, renamed) ===== -/
def ml_bt (x : Int32) (i : Nat) : Bool := x.toBitVec.getLsbD i
theorem ml_b_ext {x y : Int32} (h : ∀ i, i < 32 → ml_bt x i = ml_bt y i) : x = y := Int32.toBitVec_inj.mp (BitVec.eq_of_getLsbD_eq (fun i hi => h i hi))
theorem ml_b_or (x y : Int32) (i : Nat) : ml_bt (x ||| y) i = (ml_bt x i || ml_bt y i) := by unfold ml_bt; rw [Int32.toBitVec_or, BitVec.getLsbD_or]
theorem ml_b_and (x y : Int32) (i : Nat) : ml_bt (x &&& y) i = (ml_bt x i && ml_bt y i) := by unfold ml_bt; rw [Int32.toBitVec_and, BitVec.getLsbD_and]
theorem ml_b_big {x : Int32} {i : Nat} (h : 32 ≤ i) : ml_bt x i = false := BitVec.getLsbD_of_ge _ _ h
theorem ml_b_m1 : ∀ i, i < 32 → ml_bt (-1) i = true := by decide +kernel
theorem ml_b_0 (i : Nat) : ml_bt 0 i = false := BitVec.getLsbD_zero
theorem ml_s_l : ∀ n, n < 32 → ((nI n &&& 31).toBitVec.smod 32).toNat = n := by decide +kernel
theorem ml_s_u : ∀ n, n < 32 → (((nI n).toUInt32 &&& Int32.toUInt32 31).toBitVec % 32).toNat = n := by decide +kernel
theorem ml_b_ushr (n : Nat) (hn : n < 32) (x : Int32) (i : Nat) : ml_bt ((x.toUInt32 >>> ((nI n).toUInt32 &&& Int32.toUInt32 31)).toInt32) i = ml_bt x (n + i) := by
  show (x.toUInt32 >>> ((nI n).toUInt32 &&& Int32.toUInt32 31)).toBitVec.getLsbD i = x.toUInt32.toBitVec.getLsbD (n + i)
  rw [UInt32.toBitVec_shiftRight]
  show (x.toUInt32.toBitVec >>> (((nI n).toUInt32 &&& Int32.toUInt32 31).toBitVec % 32).toNat).getLsbD i = _
  rw [ml_s_u n hn, BitVec.getLsbD_ushiftRight]
/-- the bit of one key -/
theorem ml_b_one : ∀ n, n < 32 → ∀ i, i < 32 → ml_bt ((1 : Int32) <<< (nI n &&& 31)) i = decide (i = n) := by decide +kernel
theorem ml_b_1 : ∀ i, i < 32 → ml_bt 1 i = decide (i = 0) := by decide +kernel
/-- the mask of a tree's level -/
theorem ml_b_mask : ∀ l, l < 5 → ∀ i, i < 32 → ml_bt (((1 : Int32) <<< (nI (2 ^ l) &&& 31)) - 1) i = decide (i < 2 ^ l) := by decide +kernel
/-- one bit taken out -/
theorem ml_b_get (x : Int32) {i : Nat} (hi : i < 32) : ((x.toUInt32 >>> ((nI i).toUInt32 &&& Int32.toUInt32 31)).toInt32) &&& 1 = nI (if ml_bt x i then 1 else 0) := by
  apply ml_b_ext
  intro j hj
  rw [ml_b_and, ml_b_ushr i hi, ml_b_1 j hj]
  by_cases e : j = 0
  · subst e
    rw [Nat.add_zero]
    cases ml_bt x i
    · decide
    · decide
  · rw [decide_eq_false e, Bool.and_false]
    have h0 : ml_bt (nI 0) j = false := ml_b_0 j
    have h1 : ml_bt (nI 1) j = false := by
      have := ml_b_1 j hj
      rw [decide_eq_false e] at this
      exact this
    cases ml_bt x i
    · exact h0.symm
    · exact h1.symm
/-! ===== small pure rows ===== -/
def ml_up {α : Type} (f : Nat → α) (k : Nat) (v : α) : Nat → α := fun j => if j = k then v else f j
theorem ml_ups {α : Type} {f : Nat → α} {k : Nat} {v : α} : ml_up f k v k = v := if_pos rfl
theorem ml_upn {α : Type} {f : Nat → α} {k j : Nat} {v : α} (h : j ≠ k) : ml_up f k v j = f j := if_neg h
def ml_cnt (p : Nat → Bool) : Nat → Nat
  | 0 => 0
  | n + 1 => ml_cnt p n + (if p n then 1 else 0)
def ml_C (p : Nat → Bool) : Nat → Nat → Nat
  | 0, q => if p q then 1 else 0
  | l + 1, q => ml_C p l (2 * q) + ml_C p l (2 * q + 1)
theorem ml_C5 (p : Nat → Bool) : ml_C p 5 0 = ml_cnt p 32 := by
  simp only [ml_C, ml_cnt, Nat.add_assoc, Nat.zero_add, Nat.mul_zero, Nat.reduceMul, Nat.reduceAdd]
theorem ml_cnt_congr {p q : Nat → Bool} : ∀ n, (∀ j, j < n → p j = q j) → ml_cnt p n = ml_cnt q n
  | 0, _ => rfl
  | n + 1, h => by
    show ml_cnt p n + _ = ml_cnt q n + _
    rw [ml_cnt_congr n (fun j hj => h j (by omega)), h n (by omega)]
theorem ml_cnt_le (p : Nat → Bool) : ∀ n, ml_cnt p n ≤ n
  | 0 => Nat.le_refl 0
  | n + 1 => by
    have := ml_cnt_le p n
    show ml_cnt p n + _ ≤ n + 1
    split <;> omega
theorem ml_cnt_z {p : Nat → Bool} : ∀ n, (∀ j, j < n → p j = false) → ml_cnt p n = 0
  | 0, _ => rfl
  | n + 1, h => by
    show ml_cnt p n + _ = 0
    rw [ml_cnt_z n (fun j hj => h j (by omega)), h n (by omega)]
    rfl
theorem ml_cnt_1 (c : Nat) : ∀ n, ml_cnt (fun j => decide (j = c)) n = if c < n then 1 else 0
  | 0 => by simp [ml_cnt]
  | n + 1 => by
    show ml_cnt (fun j => decide (j = c)) n + (if decide (n = c) = true then 1 else 0) = _
    rw [ml_cnt_1 c n]
    simp only [decide_eq_true_eq]
    by_cases e : n = c
    · rw [if_pos e, if_neg (by omega), if_pos (by omega)]
    · rw [if_neg e]
      by_cases g : c < n
      · rw [if_pos g, if_pos (by omega)]
      · rw [if_neg g, if_neg (by omega)]
theorem ml_cnt_2 (c d : Nat) (hcd : c ≠ d) : ∀ n, ml_cnt (fun j => decide (j = c) || decide (j = d)) n = (if c < n then 1 else 0) + (if d < n then 1 else 0)
  | 0 => by simp [ml_cnt]
  | n + 1 => by
    show ml_cnt (fun j => decide (j = c) || decide (j = d)) n + (if (decide (n = c) || decide (n = d)) = true then 1 else 0) = _
    have key : ∀ x : Nat, (if x < n + 1 then 1 else 0) = (if x < n then 1 else 0) + (if n = x then 1 else 0) := by
      intro x
      by_cases e : n = x
      · rw [if_pos e, if_pos (show x < n + 1 by omega), if_neg (show ¬ x < n by omega)]
      · rw [if_neg e]
        by_cases g : x < n
        · rw [if_pos g, if_pos (show x < n + 1 by omega)]
        · rw [if_neg g, if_neg (show ¬ x < n + 1 by omega)]
    have two : (if (decide (n = c) || decide (n = d)) = true then 1 else 0) = (if n = c then 1 else 0) + (if n = d then 1 else 0) := by
      by_cases e : n = c
      · have e2 : ¬ n = d := fun z => hcd (e.symm.trans z)
        rw [decide_eq_true e, if_pos e, if_neg e2]
        rfl
      · rw [decide_eq_false e, if_neg e]
        by_cases e2 : n = d
        · rw [decide_eq_true e2, if_pos e2]
          rfl
        · rw [decide_eq_false e2, if_neg e2]
          rfl
    rw [ml_cnt_2 c d hcd n, key c, key d, two, Nat.add_add_add_comm]
theorem ml_ne1 {i : Nat} (h : i < 2 ^ 31) : ¬ nI i = -1 := fun e => nI_pos h (e ▸ (by decide : (-1 : Int32) < 0))
theorem ml_dv (k l : Nat) : k / 2 ^ (l + 1) = k / 2 ^ l / 2 := by rw [Nat.pow_succ, Nat.div_div_eq_div_mul]
theorem ml_sh1 : ((-1 : Int32)).toInt16.toInt32 = -1 := by decide
theorem ml_shN : ∀ i, i < 512 → (nI i).toInt16.toInt32 = nI i := by decide +kernel
theorem ml_byN : ∀ i, i < 64 → (nI i).toInt8.toInt32 = nI i := by decide +kernel
theorem ml_side {key l : Nat} (hk : key < 32) (hl : l < 32) : (nI key >>> (nI l &&& 31)) &&& 1 = nI (key / 2 ^ l % 2) := by
  rw [pk_shrN (by omega) (nI l &&& 31) l (ml_s_l l hl)]
  have hd : key / 2 ^ l ≤ key := Nat.div_le_self _ _
  exact pk_andN (by omega) 1 (by decide)
theorem ml_mod6 {k : Nat} (hk : k < 2 ^ 31) : nI k - nI k / 6 * 6 = nI (k % 6) := pk_rem (d := 6) hk (by decide) (by decide)
/-! ===== trees =====
c child, lv value, hv has, st stamp; m nodes are in use; S stamps by key (0: never written), H has, V value -/
def ml_nil (S : Nat → Nat) (H : Nat → Int32) (l q : Nat) : Prop := ∀ k, k / 2 ^ l = q → S k = 0 ∧ H k = 0
def ml_tr (c lv hv st : Nat → Int32) (m : Nat) (S : Nat → Nat) (H V : Nat → Int32) : Nat → Nat → Int32 → Prop
  | 0, q, n => (n = -1 ∧ ml_nil S H 0 q) ∨ ∃ i, i < m ∧ n = nI i ∧ S q < 2 ^ 31 ∧ st i = nI (S q) ∧ hv i = H q ∧ lv i = V q
  | l + 1, q, n => (n = -1 ∧ ml_nil S H (l + 1) q) ∨ ∃ i s, i < m ∧ n = nI i ∧ s < 2 ^ 31 ∧ st i = nI s ∧ (∀ k, k / 2 ^ (l + 1) = q → S k ≤ s) ∧ ml_tr c lv hv st m S H V l (2 * q) (c (2 * i)) ∧ ml_tr c lv hv st m S H V l (2 * q + 1) (c (2 * i + 1))
theorem ml_nil_d {S : Nat → Nat} {H : Nat → Int32} {l q r : Nat} (h : ml_nil S H (l + 1) q) (hr : r / 2 = q) : ml_nil S H l r :=
  fun k hk => h k (by rw [ml_dv, hk, hr])
theorem ml_tr_nil {c lv hv st : Nat → Int32} {m : Nat} {S : Nat → Nat} {H V : Nat → Int32} {l q : Nat} (h : ml_nil S H l q) : ml_tr c lv hv st m S H V l q (-1) := by
  cases l with
  | zero => exact Or.inl ⟨rfl, h⟩
  | succ l => exact Or.inl ⟨rfl, h⟩
theorem ml_tr_case {c lv hv st : Nat → Int32} {m : Nat} {S : Nat → Nat} {H V : Nat → Int32} {l q : Nat} {n : Int32} (h : ml_tr c lv hv st m S H V l q n) :
    (n = -1 ∧ ml_nil S H l q) ∨ ∃ i s, i < m ∧ n = nI i ∧ s < 2 ^ 31 ∧ st i = nI s ∧ (∀ k, k / 2 ^ l = q → S k ≤ s) := by
  cases l with
  | zero =>
    rcases h with h | ⟨i, hi, e, hs, h1, _, _⟩
    · exact Or.inl h
    · exact Or.inr ⟨i, S q, hi, e, hs, h1, fun k hk => by
        rw [Nat.pow_zero, Nat.div_one] at hk
        rw [hk]
        exact Nat.le_refl _⟩
  | succ l =>
    rcases h with h | ⟨i, s, hi, e, hs, h1, h2, _, _⟩
    · exact Or.inl h
    · exact Or.inr ⟨i, s, hi, e, hs, h1, h2⟩
theorem ml_tr_sh {c lv hv st : Nat → Int32} {m : Nat} {S : Nat → Nat} {H V : Nat → Int32} {l q : Nat} {n : Int32} (hm : m ≤ 512) (h : ml_tr c lv hv st m S H V l q n) : n.toInt16.toInt32 = n := by
  rcases ml_tr_case h with ⟨e, _⟩ | ⟨i, _, hi, e, _⟩
  · rw [e]; exact ml_sh1
  · rw [e]; exact ml_shN i (by omega)
/-- the old nodes stand in a larger heap -/
def ml_ext (m : Nat) (c lv hv st c' lv' hv' st' : Nat → Int32) : Prop := ∀ i, i < m → c' (2 * i) = c (2 * i) ∧ c' (2 * i + 1) = c (2 * i + 1) ∧ lv' i = lv i ∧ hv' i = hv i ∧ st' i = st i
theorem ml_ext_refl (m : Nat) (c lv hv st : Nat → Int32) : ml_ext m c lv hv st c lv hv st := fun _ _ => ⟨rfl, rfl, rfl, rfl, rfl⟩
theorem ml_ext_trans {m m' : Nat} {c lv hv st c' lv' hv' st' c'' lv'' hv'' st'' : Nat → Int32} (hm : m ≤ m') (h : ml_ext m c lv hv st c' lv' hv' st') (h' : ml_ext m' c' lv' hv' st' c'' lv'' hv'' st'') : ml_ext m c lv hv st c'' lv'' hv'' st'' := by
  intro i hi
  obtain ⟨p1, p2, p3, p4, p5⟩ := h i hi
  obtain ⟨q1, q2, q3, q4, q5⟩ := h' i (by omega)
  exact ⟨q1.trans p1, q2.trans p2, q3.trans p3, q4.trans p4, q5.trans p5⟩
theorem ml_tr_mono {c lv hv st c' lv' hv' st' : Nat → Int32} {m m' : Nat} {S S' : Nat → Nat} {H V H' V' : Nat → Int32} (hm : m ≤ m') (hx : ml_ext m c lv hv st c' lv' hv' st') :
    ∀ (l q : Nat) (n : Int32), (∀ k, k / 2 ^ l = q → S' k = S k ∧ H' k = H k ∧ V' k = V k) → ml_tr c lv hv st m S H V l q n → ml_tr c' lv' hv' st' m' S' H' V' l q n := by
  intro l
  induction l with
  | zero =>
    intro q n hk h
    obtain ⟨k1, k2, k3⟩ := hk q (by rw [Nat.pow_zero, Nat.div_one])
    rcases h with ⟨e, h⟩ | ⟨i, hi, e, hs, h1, h2, h3⟩
    · refine Or.inl ⟨e, fun k kk => ?_⟩
      obtain ⟨j1, j2, _⟩ := hk k kk
      rw [j1, j2]
      exact h k kk
    · obtain ⟨_, _, x3, x4, x5⟩ := hx i hi
      exact Or.inr ⟨i, by omega, e, by rw [k1]; exact hs, by rw [x5, k1]; exact h1, by rw [x4, k2]; exact h2, by rw [x3, k3]; exact h3⟩
  | succ l ih =>
    intro q n hk h
    rcases h with ⟨e, h⟩ | ⟨i, s, hi, e, hs, h1, h2, h3, h4⟩
    · refine Or.inl ⟨e, fun k kk => ?_⟩
      obtain ⟨j1, j2, _⟩ := hk k kk
      rw [j1, j2]
      exact h k kk
    · obtain ⟨x1, x2, _, _, x5⟩ := hx i hi
      refine Or.inr ⟨i, s, by omega, e, hs, by rw [x5]; exact h1, fun k kk => by rw [(hk k kk).1]; exact h2 k kk, ?_, ?_⟩
      · rw [x1]
        exact ih _ _ (fun k kk => hk k (by rw [ml_dv, kk]; omega)) h3
      · rw [x2]
        exact ih _ _ (fun k kk => hk k (by rw [ml_dv, kk]; omega)) h4
/-- the same tree in a larger heap -/
theorem ml_tr_ext {c lv hv st c' lv' hv' st' : Nat → Int32} {m m' : Nat} {S : Nat → Nat} {H V : Nat → Int32} {l q : Nat} {n : Int32} (hm : m ≤ m') (hx : ml_ext m c lv hv st c' lv' hv' st') (h : ml_tr c lv hv st m S H V l q n) : ml_tr c' lv' hv' st' m' S H V l q n :=
  ml_tr_mono hm hx l q n (fun _ _ => ⟨rfl, rfl, rfl⟩) h
end
section
/-! ===== the methods without stores to trees ===== -/
theorem ml_check {post : Int32 → Prop} {fc ls tp : Int32} {a1 a2 a3 a4 a5 a6 a7 a8 a9 a10 a11 a12 a13 a14 a15 a16 a17 a18 : Nat → Int32} {t lo hi : Nat} (ht : t < 4) (hl : lo ≤ hi) (hh : hi ≤ 31) (H1 : ¬ a8 t = 0 → post 0) (H0 : a8 t = 0 → post (-3)) : wpX_check post (fc, ls, tp, a1, a2, a3, a4, a5, a6, a7, a8, a9, a10, a11, a12, a13, a14, a15, a16, a17, a18) (nI t) (nI lo) (nI hi) := by
  unfold wpX_check
  refine br_f (nI_pos (by omega)) (pk_lt 3 t (fun z => absurd z (by omega)) (fun _ => br_f (nI_pos (by omega)) (pk_lt 31 hi (fun z => absurd z (by omega)) (fun _ => pk_le lo hi (fun _ => ⟨pk_in t 4 ht, ?_⟩) (fun z => absurd z (by omega))))))
  rw [nI_clamp (show t < 2 ^ 31 by omega)]
  exact br_c H0 H1
theorem ml_place {post : Int32 → Prop} {fc ls tp : Int32} {a1 a2 a3 a4 a5 a6 a7 a8 a9 a10 a11 a12 a13 a14 a15 a16 a17 a18 : Nat → Int32} {t c x : Nat} (ht : t < 4) (hc : c ≤ 6) (h12 : a12 t = nI c)
    (Hf : ∀ j, j < c → a13 (6 * t + j) = nI x → (∀ i, i < j → ¬ a13 (6 * t + i) = nI x) → post (nI (6 * t + j)))
    (Hn : (∀ j, j < c → ¬ a13 (6 * t + j) = nI x) → post (-1)) : wpX_placeOf post (fc, ls, tp, a1, a2, a3, a4, a5, a6, a7, a8, a9, a10, a11, a12, a13, a14, a15, a16, a17, a18) (nI t) (nI x) := by
  have et := nI_clamp (show t < 2 ^ 31 by omega)
  have e6 : ∀ z, 6 * nI t + nI z = nI (6 * t + z) := fun z => by
    rw [← nI_add, ← pk_mul]
    rfl
  unfold wpX_placeOf
  refine nm_r (e' := nI (6 * t + 0)) (by rw [← e6, nI_0]; grind) ?_
  refine pk_loop (σ := Unit) (fun n i _ => wX_placeOf_5 post (nI t) (nI x) fc ls tp a1 a2 a3 a4 a5 a6 a7 a8 a9 a10 a11 a12 a13 a14 a15 a16 a17 a18 n (nI (6 * t + i))) (fun i _ => ∀ j, j < i → ¬ a13 (6 * t + j) = nI x) c 0 () (by omega) (fun j hj => absurd hj (by omega)) ?_ ?_
  · intro n _ h
    exact ⟨pk_in t 4 ht, pk_le (6 * t + c) (6 * t + c) (fun _ => Hn h) (fun z => absurd z (by omega)) (hx := by rw [et, h12, e6])⟩
  · intro n i _ hi h hw
    refine ⟨pk_in t 4 ht, pk_le (6 * t + c) (6 * t + i) (fun z => absurd z (by omega)) (fun _ => ⟨pk_in (6 * t + i) 24 (by omega), br_c (fun e => ?_) (fun e => ?_)⟩) (hx := by rw [et, h12, e6])⟩
    · rw [nI_clamp (by omega)] at e
      exact Hf i hi e h
    · rw [nI_clamp (by omega)] at e
      exact nm_r (nI_1 _) (hw () (lt_s h e))
theorem ml_begin {post : Int32 → St2 → Prop} {fc ls tp : Int32} {a1 a2 a3 a4 a5 a6 a7 a8 a9 a10 a11 a12 a13 a14 a15 a16 a17 a18 : Nat → Int32} {t k : Nat} (ht : t < 4) (hk : k < 2 ^ 31) (el : ls = nI k) (h8 : a8 t = 0) (hr : (a7 (k % 6)).toInt16.toInt32 = a7 (k % 6))
    (H : post (nI k) (fc, nI k, tp, a1, a2, a3, a4, a5, a6, a7, upd a8 t 1, upd a9 t (nI k), upd a10 t (a7 (k % 6)), upd a11 t 0, upd a12 t 0, a13, a14, a15, a16, a17, a18)) : wpX_begin post (fc, ls, tp, a1, a2, a3, a4, a5, a6, a7, a8, a9, a10, a11, a12, a13, a14, a15, a16, a17, a18) (nI t) := by
  subst el
  have et := nI_clamp (show t < 2 ^ 31 by omega)
  have e6 := ml_mod6 hk
  unfold wpX_begin
  exact br_f (nI_pos (by omega)) (pk_le t 3 (fun _ => ⟨pk_in t 4 ht, br_t (by rw [et]; exact h8) ⟨pk_in t 4 ht, nm_r (by rw [et]) ⟨pk_in t 4 ht, nm_r (by rw [et]) ⟨by decide, pk_in (k % 6) 6 (by omega) e6, pk_in t 4 ht, nm_r (by rw [et, e6, nI_clamp (by omega), vp_nar_short, hr]) ⟨pk_in t 4 ht, nm_r (by rw [et]) ⟨pk_in t 4 ht, nm_r (by rw [et]) H⟩⟩⟩⟩⟩⟩) (fun z => absurd z (by omega)))
theorem ml_put77 {post : Int32 → St2 → Prop} {fc ls tp : Int32} {a1 a2 a3 a4 a5 a6 a7 a8 a9 a10 a11 a12 a13 a14 a15 a16 a17 a18 : Nat → Int32} {t c w : Nat} {v b : Int32} (ht : t < 4) (hw : w < 24) (h12 : a12 t = nI c) (hb : vp_nar .boolean b = b)
    (H : post (nI c) (fc, ls, tp, a1, a2, a3, a4, a5, a6, a7, a8, a9, a10, a11, a12, a13, upd a14 w v, upd a15 w b, a16, a17, a18)) : wX_put_77 post (nI t) v b (nI w) fc ls tp a1 a2 a3 a4 a5 a6 a7 a8 a9 a10 a11 a12 a13 a14 a15 a16 a17 a18 := by
  have et := nI_clamp (show t < 2 ^ 31 by omega)
  have ew := nI_clamp (show w < 2 ^ 31 by omega)
  unfold wX_put_77
  rw [hb, ew, et, h12]
  exact ⟨pk_in w 24 hw, nm_e ⟨pk_in w 24 hw, nm_e ⟨pk_in t 4 ht, H⟩⟩⟩
theorem ml_put_new {post : Int32 → St2 → Prop} {fc ls tp : Int32} {a1 a2 a3 a4 a5 a6 a7 a8 a9 a10 a11 a12 a13 a14 a15 a16 a17 a18 : Nat → Int32} {t c x : Nat} {v b : Int32} (ht : t < 4) (hx : x < 32) (ho : ¬ a8 t = 0) (hc : c < 6) (h12 : a12 t = nI c) (hn : ∀ j, j < c → ¬ a13 (6 * t + j) = nI x) (hb : vp_nar .boolean b = b)
    (H : post (nI (c + 1)) (fc, ls, tp, a1, a2, a3, a4, a5, a6, a7, a8, a9, a10, a11, upd a12 t (nI (c + 1)), upd a13 (6 * t + c) (nI x), upd a14 (6 * t + c) v, upd a15 (6 * t + c) b, a16, a17, a18)) : wpX_put post (fc, ls, tp, a1, a2, a3, a4, a5, a6, a7, a8, a9, a10, a11, a12, a13, a14, a15, a16, a17, a18) (nI t) (nI x) v b := by
  have et := nI_clamp (show t < 2 ^ 31 by omega)
  have e6 : ∀ z, 6 * nI t + nI z = nI (6 * t + z) := fun z => by
    rw [← nI_add, ← pk_mul]
    rfl
  unfold wpX_put
  refine ml_check ht (Nat.le_refl x) (by omega) (fun _ => br_t rfl ?_) (fun z => absurd z ho)
  refine ml_place ht (by omega) h12 (fun j hj e _ => absurd e (hn j hj)) (fun _ => br_f (by decide) ⟨pk_in t 4 ht, ?_⟩)
  refine pk_lt c 6 (fun _ => ⟨pk_in t 4 ht, nm_r (e' := nI (6 * t + c)) (by rw [et, h12, e6]) ⟨pk_in t 4 ht, pk_in t 4 ht, nm_r (e' := upd a12 t (nI (c + 1))) ?_ ⟨pk_in (6 * t + c) 24 (by omega), nm_r (e' := upd a13 (6 * t + c) (nI x)) ?_ ?_⟩⟩⟩) (fun z => absurd z (by omega)) (hx := by rw [et]; exact h12)
  · rw [et, h12, nI_1, ml_byN _ (by omega)]
  · rw [nI_clamp (by omega), ml_byN _ (by omega)]
  · exact ml_put77 ht (by omega) pk_us hb H
theorem ml_put_old {post : Int32 → St2 → Prop} {fc ls tp : Int32} {a1 a2 a3 a4 a5 a6 a7 a8 a9 a10 a11 a12 a13 a14 a15 a16 a17 a18 : Nat → Int32} {t c x j : Nat} {v b : Int32} (ht : t < 4) (hx : x < 32) (ho : ¬ a8 t = 0) (hc : c ≤ 6) (h12 : a12 t = nI c) (hj : j < c) (hf : a13 (6 * t + j) = nI x) (hn : ∀ i, i < j → ¬ a13 (6 * t + i) = nI x) (hb : vp_nar .boolean b = b)
    (H : post (nI c) (fc, ls, tp, a1, a2, a3, a4, a5, a6, a7, a8, a9, a10, a11, a12, a13, upd a14 (6 * t + j) v, upd a15 (6 * t + j) b, a16, a17, a18)) : wpX_put post (fc, ls, tp, a1, a2, a3, a4, a5, a6, a7, a8, a9, a10, a11, a12, a13, a14, a15, a16, a17, a18) (nI t) (nI x) v b := by
  unfold wpX_put
  refine ml_check ht (Nat.le_refl x) (by omega) (fun _ => br_t rfl ?_) (fun z => absurd z ho)
  refine ml_place ht hc h12 (fun j' hj' e h' => ?_) (fun z => absurd hf (z j hj))
  have ej : j' = j := by
    rcases Nat.lt_trichotomy j' j with z | z | z
    · exact absurd e (hn j' z)
    · exact z
    · exact absurd hf (h' j z)
  subst ej
  exact br_t (nI_pos' (by omega)) (ml_put77 ht (by omega) h12 hb H)
theorem ml_put_full {post : Int32 → St2 → Prop} {fc ls tp : Int32} {a1 a2 a3 a4 a5 a6 a7 a8 a9 a10 a11 a12 a13 a14 a15 a16 a17 a18 : Nat → Int32} {t x : Nat} {v b : Int32} (ht : t < 4) (hx : x < 32) (ho : ¬ a8 t = 0) (h12 : a12 t = nI 6) (hn : ∀ j, j < 6 → ¬ a13 (6 * t + j) = nI x)
    (H : post (-4) (fc, ls, tp, a1, a2, a3, a4, a5, a6, a7, a8, a9, a10, a11, a12, a13, a14, a15, a16, a17, a18)) : wpX_put post (fc, ls, tp, a1, a2, a3, a4, a5, a6, a7, a8, a9, a10, a11, a12, a13, a14, a15, a16, a17, a18) (nI t) (nI x) v b := by
  have et := nI_clamp (show t < 2 ^ 31 by omega)
  unfold wpX_put
  refine ml_check ht (Nat.le_refl x) (by omega) (fun _ => br_t rfl ?_) (fun z => absurd z ho)
  refine ml_place ht (Nat.le_refl 6) h12 (fun j hj e _ => absurd e (hn j hj)) (fun _ => br_f (by decide) ⟨pk_in t 4 ht, ?_⟩)
  exact pk_lt 6 6 (fun z => absurd z (by omega)) (fun _ => H) (hx := by rw [et]; exact h12)
theorem ml_leaf {post : Int32 → Prop} {fc ls tp : Int32} {a1 a2 a3 a4 a5 a6 a7 a8 a9 a10 a11 a12 a13 a14 a15 a16 a17 a18 : Nat → Int32} {m x : Nat} {S : Nat → Nat} {H V : Nat → Int32} (hm : m ≤ 512) (hx : x < 32) (Hn : S x = 0 → H x = 0 → post (-1))
    (Hs : ∀ i, i < m → a4 i = nI (S x) → a3 i = H x → a2 i = V x → post (nI i)) :
    ∀ (l : Nat) (n : Int32), l ≤ 5 → ml_tr a1 a2 a3 a4 m S H V l (x / 2 ^ l) n → wX_leafOf_5 post (nI x) fc ls tp a1 a2 a3 a4 a5 a6 a7 a8 a9 a10 a11 a12 a13 a14 a15 a16 a17 a18 (l + 1) n (nI l + (-1)) := by
  intro l
  induction l with
  | zero =>
    intro n _ h
    refine br_t (by decide) ?_
    rcases h with ⟨e, h⟩ | ⟨i, hi, e, _, h1, h2, h3⟩
    · rw [e]
      exact Hn (h x rfl).1 (h x rfl).2
    · rw [Nat.pow_zero, Nat.div_one] at h1 h2 h3
      rw [e]
      exact Hs i hi h1 h2 h3
  | succ l ih =>
    intro n hl h
    rw [pk_m1]
    refine br_f (nI_pos (by omega)) ?_
    rcases h with ⟨e, h⟩ | ⟨i, s, hi, e, _, _, _, hL, hR⟩
    · rw [e]
      exact br_t (by decide) (Hn (h x rfl).1 (h x rfl).2)
    · rw [e]
      have hb : x / 2 ^ l % 2 < 2 := Nat.mod_lt _ (by omega)
      have eb : 2 * nI i + ((nI x >>> (nI l &&& 31)) &&& 1) = nI (2 * i + x / 2 ^ l % 2) := by
        rw [ml_side hx (by omega), ← nI_add, ← pk_mul]
        rfl
      refine br_f (nI_pos (by omega)) ⟨pk_in _ 1024 (by omega) eb, nm_r (e' := a1 (2 * i + x / 2 ^ l % 2)) (by rw [eb, nI_clamp (by omega)]) (nm_e (ih _ (by omega) ?_))⟩
      have ed := ml_dv x l
      rcases Nat.mod_two_eq_zero_or_one (x / 2 ^ l) with z | z
      · rw [z, Nat.add_zero, show x / 2 ^ l = 2 * (x / 2 ^ (l + 1)) by omega]
        exact hL
      · rw [z, show x / 2 ^ l = 2 * (x / 2 ^ (l + 1)) + 1 by omega]
        exact hR
theorem ml_leafT {post : Int32 → Prop} {fc ls tp : Int32} {a1 a2 a3 a4 a5 a6 a7 a8 a9 a10 a11 a12 a13 a14 a15 a16 a17 a18 : Nat → Int32} {m x : Nat} {S : Nat → Nat} {H V : Nat → Int32} {r : Int32} (hm : m ≤ 512) (hx : x < 32) (ht : ml_tr a1 a2 a3 a4 m S H V 5 0 r) (Hn : S x = 0 → H x = 0 → post (-1))
    (Hs : ∀ i, i < m → a4 i = nI (S x) → a3 i = H x → a2 i = V x → post (nI i)) : wpX_leafOf post (fc, ls, tp, a1, a2, a3, a4, a5, a6, a7, a8, a9, a10, a11, a12, a13, a14, a15, a16, a17, a18) r (nI x) := by
  unfold wpX_leafOf
  have e0 : x / 2 ^ 5 = 0 := Nat.div_eq_of_lt (by omega)
  have h := ml_leaf (post := post) (fc := fc) (ls := ls) (tp := tp) (a5 := a5) (a6 := a6) (a7 := a7) (a8 := a8) (a9 := a9) (a10 := a10) (a11 := a11) (a12 := a12) (a13 := a13) (a14 := a14) (a15 := a15) (a16 := a16) (a17 := a17) (a18 := a18) hm hx Hn Hs 5 r (Nat.le_refl 5) (by rw [e0]; exact ht)
  rw [show nI 5 + (-1) = 4 from by decide] at h
  exact ⟨6, h⟩
theorem ml_leafHas {post : Int32 → Prop} {fc ls tp : Int32} {a1 a2 a3 a4 a5 a6 a7 a8 a9 a10 a11 a12 a13 a14 a15 a16 a17 a18 : Nat → Int32} {m x : Nat} {S : Nat → Nat} {H V : Nat → Int32} {r : Int32} (hm : m ≤ 512) (hx : x < 32) (ht : ml_tr a1 a2 a3 a4 m S H V 5 0 r) (H0 : H x = 0 → post 0) (H1 : ¬ H x = 0 → post 1) :
    wpX_leafOf (fun r_4 => (((r_4 < 0 → (post 0)) ∧ (¬ r_4 < 0 → (vp_in r_4 512 ∧ ((((a3 r_4.toNatClampNeg) = 0 → (post 0)) ∧ (¬ (a3 r_4.toNatClampNeg) = 0 → (post 1))))))))) (fc, ls, tp, a1, a2, a3, a4, a5, a6, a7, a8, a9, a10, a11, a12, a13, a14, a15, a16, a17, a18) r (nI x) := by
  refine ml_leafT hm hx ht (fun _ h => br_t (by decide) (H0 h)) (fun i hi _ h3 _ => br_f (nI_pos (by omega)) ⟨pk_in i 512 (by omega), ?_⟩)
  rw [nI_clamp (by omega), h3]
  exact br_c H0 H1
theorem ml_view {post : Int32 → Prop} {fc ls tp : Int32} {a1 a2 a3 a4 a5 a6 a7 a8 a9 a10 a11 a12 a13 a14 a15 a16 a17 a18 : Nat → Int32} {t c x m : Nat} {S : Nat → Nat} {H V : Nat → Int32} (ht : t < 4) (hc : c ≤ 6) (hx : x < 32) (h12 : a12 t = nI c) (hm : m ≤ 512) (htr : ml_tr a1 a2 a3 a4 m S H V 5 0 (a10 t))
    (Hf : ∀ j, j < c → a13 (6 * t + j) = nI x → (∀ i, i < j → ¬ a13 (6 * t + i) = nI x) → narrow .boolean (.int (a15 (6 * t + j))) = .int (a15 (6 * t + j)) ∧ post (a15 (6 * t + j)))
    (H0 : (∀ j, j < c → ¬ a13 (6 * t + j) = nI x) → H x = 0 → post 0) (H1 : (∀ j, j < c → ¬ a13 (6 * t + j) = nI x) → ¬ H x = 0 → post 1) : wpX_inView post (fc, ls, tp, a1, a2, a3, a4, a5, a6, a7, a8, a9, a10, a11, a12, a13, a14, a15, a16, a17, a18) (nI t) (nI x) := by
  unfold wpX_inView
  refine ml_place ht hc h12 (fun j hj e h => br_f (nI_pos (by omega)) ⟨pk_in (6 * t + j) 24 (by omega), ?_⟩) (fun h => br_t (by decide) ⟨pk_in t 4 ht, ?_⟩)
  · rw [nI_clamp (by omega)]
    exact Hf j hj e h
  · rw [nI_clamp (show t < 2 ^ 31 by omega)]
    exact ml_leafHas hm hx htr (H0 h) (H1 h)
theorem ml_read {post : Int32 → St2 → Prop} {fc ls tp : Int32} {a1 a2 a3 a4 a5 a6 a7 a8 a9 a10 a11 a12 a13 a14 a15 a16 a17 a18 : Nat → Int32} {t x m : Nat} {S : Nat → Nat} {H V : Nat → Int32} (ht : t < 4) (hx : x < 32) (ho : ¬ a8 t = 0) (h12 : a12 t = nI 0) (hm : m ≤ 512) (htr : ml_tr a1 a2 a3 a4 m S H V 5 0 (a10 t))
    (H0 : H x = 0 → post 0 (fc, ls, tp, a1, a2, a3, a4, a5, a6, a7, a8, a9, a10, upd a11 t (a11 t ||| ((1 : Int32) <<< (nI x &&& 31))), a12, a13, a14, a15, a16, a17, a18)) (H1 : ¬ H x = 0 → post 1 (fc, ls, tp, a1, a2, a3, a4, a5, a6, a7, a8, a9, a10, upd a11 t (a11 t ||| ((1 : Int32) <<< (nI x &&& 31))), a12, a13, a14, a15, a16, a17, a18)) : wpX_read post (fc, ls, tp, a1, a2, a3, a4, a5, a6, a7, a8, a9, a10, a11, a12, a13, a14, a15, a16, a17, a18) (nI t) (nI x) := by
  have et := nI_clamp (show t < 2 ^ 31 by omega)
  unfold wpX_read
  refine ml_check ht (Nat.le_refl x) (by omega) (fun _ => br_t rfl ⟨pk_in t 4 ht, pk_in t 4 ht, nm_r (e' := upd a11 t (a11 t ||| ((1 : Int32) <<< (nI x &&& 31)))) (by rw [et]) ?_⟩) (fun z => absurd z ho)
  exact ml_view ht (Nat.zero_le 6) hx h12 hm htr (fun j hj => absurd hj (by omega)) (fun _ h => br_t rfl (H0 h)) (fun _ h => br_f (by decide) (H1 h))
theorem ml_peek {post : Int32 → Prop} {fc ls tp : Int32} {a1 a2 a3 a4 a5 a6 a7 a8 a9 a10 a11 a12 a13 a14 a15 a16 a17 a18 : Nat → Int32} {t x m : Nat} {S : Nat → Nat} {H V : Nat → Int32} (ht : t < 4) (hx : x < 32) (ho : ¬ a8 t = 0) (h12 : a12 t = nI 0) (hm : m ≤ 512) (htr : ml_tr a1 a2 a3 a4 m S H V 5 0 (a10 t))
    (hh : ¬ H x = 0) (HV : post (V x)) : wpX_peek post (fc, ls, tp, a1, a2, a3, a4, a5, a6, a7, a8, a9, a10, a11, a12, a13, a14, a15, a16, a17, a18) (nI t) (nI x) := by
  have et := nI_clamp (show t < 2 ^ 31 by omega)
  unfold wpX_peek
  refine ml_check ht (Nat.le_refl x) (by omega) (fun _ => br_t rfl ?_) (fun z => absurd z ho)
  refine ml_place ht (Nat.zero_le 6) h12 (fun j hj => absurd hj (by omega)) (fun _ => br_t (by decide) ⟨pk_in t 4 ht, ?_⟩)
  rw [et]
  refine ml_leafT hm hx htr (fun _ h => absurd h hh) (fun i hi _ h3 h2 => br_f (nI_pos (by omega)) ⟨pk_in i 512 (by omega), ?_⟩)
  rw [nI_clamp (by omega), h3, h2]
  exact br_f hh ⟨pk_in i 512 (by omega), HV⟩
theorem ml_countRange {post : Int32 → St2 → Prop} {fc ls tp : Int32} {a1 a2 a3 a4 a5 a6 a7 a8 a9 a10 a11 a12 a13 a14 a15 a16 a17 a18 : Nat → Int32} {t : Nat} {vw : Nat → Int32} (ht : t < 4) (ho : ¬ a8 t = 0)
    (hv : ∀ x, x < 32 → ∀ (b11 : Nat → Int32) (ps : Int32 → Prop), ps (vw x) → wpX_inView ps (fc, ls, tp, a1, a2, a3, a4, a5, a6, a7, a8, a9, a10, b11, a12, a13, a14, a15, a16, a17, a18) (nI t) (nI x))
    (H : ∀ b11 : Nat → Int32, (∀ j, j ≠ t → b11 j = a11 j) → post (nI (ml_cnt (fun j => decide (¬ vw j = 0)) 32)) (fc, ls, tp, a1, a2, a3, a4, a5, a6, a7, a8, a9, a10, b11, a12, a13, a14, a15, a16, a17, a18)) : wpX_countRange post (fc, ls, tp, a1, a2, a3, a4, a5, a6, a7, a8, a9, a10, a11, a12, a13, a14, a15, a16, a17, a18) (nI t) 0 31 := by
  have et := nI_clamp (show t < 2 ^ 31 by omega)
  unfold wpX_countRange
  refine ml_check (lo := 0) (hi := 31) ht (by omega) (by omega) (fun _ => br_t rfl ?_) (fun z => absurd z ho)
  refine pk_loop (fun n i b11 => wX_countRange_23 post (nI t) 31 fc ls tp n (nI (ml_cnt (fun j => decide (¬ vw j = 0)) i)) (nI i) a1 a2 a3 a4 a5 a6 a7 a8 a9 a10 (b11) a12 a13 a14 a15 a16 a17 a18) (fun i b11 => ∀ j, j ≠ t → b11 j = a11 j) 32 0 a11 (by omega) (fun _ _ => rfl) ?_ ?_
  · intro n b11 h
    exact pk_lt 31 32 (fun _ => H b11 h) (fun z => absurd z (by omega))
  · intro n i b11 hi h hw
    refine pk_lt 31 i (fun z => absurd z (by omega)) (fun _ => ⟨pk_in t 4 ht, pk_in t 4 ht, nm_e (hv i hi _ _ ?_)⟩)
    have hw' := hw (upd b11 t ((b11 t) ||| ((1 : Int32) <<< (nI i &&& 31)))) (fun j hj => by rw [pk_un hj]; exact h j hj)
    rw [et]
    refine br_c (fun e => nm_r (nI_1 i) ?_) (fun e => nm_r (e' := nI (ml_cnt (fun j => decide (¬ vw j = 0)) (i + 1))) ?_ (nm_r (nI_1 i) hw'))
    · have ec : ml_cnt (fun j => decide (¬ vw j = 0)) (i + 1) = ml_cnt (fun j => decide (¬ vw j = 0)) i := by
        show _ + _ = _
        rw [if_neg (by simp [e])]
        rfl
      rw [ec] at hw'
      exact hw'
    · rw [nI_1]
      show _ = nI (_ + _)
      rw [if_pos (by simp [e])]
theorem ml_kept {post : Int32 → Prop} {fc ls tp : Int32} {a1 a2 a3 a4 a5 a6 a7 a8 a9 a10 a11 a12 a13 a14 a15 a16 a17 a18 : Nat → Int32} {s k : Nat} (hk : k < 2 ^ 30) (el : ls = nI k) (hs : s ≤ k) (h6 : k < s + 6) (H : post 1) : wpX_isKept post (fc, ls, tp, a1, a2, a3, a4, a5, a6, a7, a8, a9, a10, a11, a12, a13, a14, a15, a16, a17, a18) (nI s) := by
  subst el
  unfold wpX_isKept
  refine br_f (nI_pos (by omega)) (br_f (nI_nlt hs (by omega)) (br_f (fun z => ?_) H))
  rw [Int32.le_iff_toInt_le, nI_toInt (by omega), show nI k - 6 = nI k - nI 6 from rfl, pk_sub_toInt (by omega) (by omega)] at z
  omega
theorem ml_notkept {post : Int32 → Prop} {fc ls tp : Int32} {a1 a2 a3 a4 a5 a6 a7 a8 a9 a10 a11 a12 a13 a14 a15 a16 a17 a18 : Nat → Int32} {s k : Nat} (hk : k < 2 ^ 30) (el : ls = nI k) (h6 : s + 6 ≤ k) (H : post 0) : wpX_isKept post (fc, ls, tp, a1, a2, a3, a4, a5, a6, a7, a8, a9, a10, a11, a12, a13, a14, a15, a16, a17, a18) (nI s) := by
  subst el
  unfold wpX_isKept
  refine br_f (nI_pos (by omega)) (br_f (nI_nlt (by omega) (by omega)) (br_t ?_ H))
  rw [Int32.le_iff_toInt_le, nI_toInt (by omega), show nI k - 6 = nI k - nI 6 from rfl, pk_sub_toInt (by omega) (by omega)]
  omega
theorem ml_has {post : Int32 → Prop} {fc ls tp : Int32} {a1 a2 a3 a4 a5 a6 a7 a8 a9 a10 a11 a12 a13 a14 a15 a16 a17 a18 : Nat → Int32} {s k x m : Nat} {S : Nat → Nat} {H V : Nat → Int32} (hk : k < 2 ^ 30) (el : ls = nI k) (hs : s ≤ k) (h6 : k < s + 6) (hx : x < 32) (hm : m ≤ 512) (htr : ml_tr a1 a2 a3 a4 m S H V 5 0 (a7 (s % 6)))
    (H0 : H x = 0 → post 0) (H1 : ¬ H x = 0 → post 1) : wpX_has post (fc, ls, tp, a1, a2, a3, a4, a5, a6, a7, a8, a9, a10, a11, a12, a13, a14, a15, a16, a17, a18) (nI s) (nI x) := by
  unfold wpX_has
  refine ml_kept hk el hs h6 (br_f (by decide) (br_f (nI_pos (by omega)) (pk_le x 31 (fun _ => ⟨by decide, pk_in (s % 6) 6 (by omega) (ml_mod6 (by omega)), ?_⟩) (fun z => absurd z (by omega)))))
  rw [ml_mod6 (by omega), nI_clamp (by omega)]
  exact ml_leafHas hm hx htr H0 H1
theorem ml_has_gone {post : Int32 → Prop} {fc ls tp : Int32} {a1 a2 a3 a4 a5 a6 a7 a8 a9 a10 a11 a12 a13 a14 a15 a16 a17 a18 : Nat → Int32} {s k : Nat} {x : Int32} (hk : k < 2 ^ 30) (el : ls = nI k) (h6 : s + 6 ≤ k) (H : post 0) : wpX_has post (fc, ls, tp, a1, a2, a3, a4, a5, a6, a7, a8, a9, a10, a11, a12, a13, a14, a15, a16, a17, a18) (nI s) x := by
  unfold wpX_has
  exact ml_notkept hk el h6 (br_t rfl H)
theorem ml_at {post : Int32 → Prop} {fc ls tp : Int32} {a1 a2 a3 a4 a5 a6 a7 a8 a9 a10 a11 a12 a13 a14 a15 a16 a17 a18 : Nat → Int32} {s k x m : Nat} {S : Nat → Nat} {H V : Nat → Int32} (hk : k < 2 ^ 30) (el : ls = nI k) (hs : s ≤ k) (h6 : k < s + 6) (hx : x < 32) (hm : m ≤ 512) (htr : ml_tr a1 a2 a3 a4 m S H V 5 0 (a7 (s % 6)))
    (hh : ¬ H x = 0) (HV : post (V x)) : wpX_at post (fc, ls, tp, a1, a2, a3, a4, a5, a6, a7, a8, a9, a10, a11, a12, a13, a14, a15, a16, a17, a18) (nI s) (nI x) := by
  unfold wpX_at
  refine ml_has hk el hs h6 hx hm htr (fun z => absurd z hh) (fun _ => br_f (by decide) ⟨by decide, pk_in (s % 6) 6 (by omega) (ml_mod6 (by omega)), ?_⟩)
  rw [ml_mod6 (by omega), nI_clamp (by omega)]
  refine ml_leafT hm hx htr (fun _ h => absurd h hh) (fun i hi _ _ h2 => ⟨pk_in i 512 (by omega), ?_⟩)
  rw [nI_clamp (by omega), h2]
  exact HV
theorem ml_size {post : Int32 → Prop} {fc ls tp : Int32} {a1 a2 a3 a4 a5 a6 a7 a8 a9 a10 a11 a12 a13 a14 a15 a16 a17 a18 : Nat → Int32} {s k m : Nat} {S : Nat → Nat} {H V : Nat → Int32} (hk : k < 2 ^ 30) (el : ls = nI k) (hs : s ≤ k) (h6 : k < s + 6) (hm : m ≤ 512) (htr : ml_tr a1 a2 a3 a4 m S H V 5 0 (a7 (s % 6)))
    (HH : post (nI (ml_cnt (fun j => decide (¬ H j = 0)) 32))) : wpX_size post (fc, ls, tp, a1, a2, a3, a4, a5, a6, a7, a8, a9, a10, a11, a12, a13, a14, a15, a16, a17, a18) (nI s) := by
  unfold wpX_size
  refine br_f (nI_pos (by omega)) (br_t (by rw [el]; exact nI_le hs (by omega)) (ml_kept hk el hs h6 (br_f (by decide) ?_)))
  refine pk_loop (σ := Unit) (fun n i _ => wX_size_29 post (nI s) fc ls tp a1 a2 a3 a4 a5 a6 a7 a8 a9 a10 a11 a12 a13 a14 a15 a16 a17 a18 n (nI (ml_cnt (fun j => decide (¬ H j = 0)) i)) (nI i)) (fun _ _ => True) 32 0 () (by omega) trivial ?_ ?_
  · intro n _ _
    exact pk_le 32 32 (fun _ => HH) (fun z => absurd z (by omega))
  · intro n i _ hi _ hw
    have hw' := hw () trivial
    refine pk_le 32 i (fun z => absurd z (by omega)) (fun _ => ml_has hk el hs h6 hi hm htr (fun e => br_t rfl (nm_r (nI_1 i) ?_)) (fun e => br_f (by decide) (nm_r (e' := nI (ml_cnt (fun j => decide (¬ H j = 0)) (i + 1))) ?_ (nm_r (nI_1 i) hw'))))
    · have ec : ml_cnt (fun j => decide (¬ H j = 0)) (i + 1) = ml_cnt (fun j => decide (¬ H j = 0)) i := by
        show _ + _ = _
        rw [if_neg (by simp [e])]
        rfl
      rw [ec] at hw'
      exact hw'
    · rw [nI_1]
      show _ = nI (_ + _)
      rw [if_pos (by simp [e])]
theorem ml_size_gone {post : Int32 → Prop} {fc ls tp : Int32} {a1 a2 a3 a4 a5 a6 a7 a8 a9 a10 a11 a12 a13 a14 a15 a16 a17 a18 : Nat → Int32} {s k : Nat} (hk : k < 2 ^ 30) (el : ls = nI k) (h6 : s + 6 ≤ k) (H : post (-6)) : wpX_size post (fc, ls, tp, a1, a2, a3, a4, a5, a6, a7, a8, a9, a10, a11, a12, a13, a14, a15, a16, a17, a18) (nI s) := by
  unfold wpX_size
  exact br_f (nI_pos (by omega)) (br_t (by rw [el]; exact nI_le (by omega) (by omega)) (ml_notkept hk el h6 (br_t rfl H)))
theorem ml_size_bad {post : Int32 → Prop} {fc ls tp : Int32} {a1 a2 a3 a4 a5 a6 a7 a8 a9 a10 a11 a12 a13 a14 a15 a16 a17 a18 : Nat → Int32} {s k : Nat} (hs : s < 2 ^ 30) (el : ls = nI k) (h6 : k < s) (H : post (-1)) : wpX_size post (fc, ls, tp, a1, a2, a3, a4, a5, a6, a7, a8, a9, a10, a11, a12, a13, a14, a15, a16, a17, a18) (nI s) := by
  unfold wpX_size
  exact br_f (nI_pos (by omega)) (br_f (by rw [el]; exact nI_ge h6 (by omega)) H)
theorem ml_abort {post : Int32 → St2 → Prop} {fc ls tp : Int32} {a1 a2 a3 a4 a5 a6 a7 a8 a9 a10 a11 a12 a13 a14 a15 a16 a17 a18 : Nat → Int32} {t : Nat} (ht : t < 4) (h8 : a8 t = 0) (H : post (-3) (fc, ls, tp, a1, a2, a3, a4, a5, a6, a7, a8, a9, a10, a11, a12, a13, a14, a15, a16, a17, a18)) : wpX_abort post (fc, ls, tp, a1, a2, a3, a4, a5, a6, a7, a8, a9, a10, a11, a12, a13, a14, a15, a16, a17, a18) (nI t) := by
  unfold wpX_abort
  exact ml_check (lo := 0) (hi := 0) ht (by omega) (by omega) (fun z => absurd h8 z) (fun _ => br_f (by decide) H)
end
section
/-! ===== the stack of changedSince ===== -/
def ml_pt (n : Int32) (p : Nat) : Nat := if n < 0 then p else p + 1
def ml_pa (n : Int32) (p : Nat) (a : Nat → Int32) (x : Int32) : Nat → Int32 := if n < 0 then a else upd a p x
theorem ml_pt_n (p : Nat) : ml_pt (-1) p = p := if_pos (by decide)
theorem ml_pa_n (p : Nat) (a : Nat → Int32) (x : Int32) : ml_pa (-1) p a x = a := if_pos (by decide)
theorem ml_pt_s {i : Nat} (hi : i < 2 ^ 31) (p : Nat) : ml_pt (nI i) p = p + 1 := if_neg (nI_pos hi)
theorem ml_pa_s {i : Nat} (hi : i < 2 ^ 31) (p : Nat) (a : Nat → Int32) (x : Int32) : ml_pa (nI i) p a x = upd a p x := if_neg (nI_pos hi)
theorem ml_pa_lo (n : Int32) {p j : Nat} (a : Nat → Int32) (x : Int32) (hj : j < p) : ml_pa n p a x j = a j := by
  unfold ml_pa
  split
  · rfl
  · exact pk_un (by omega)
theorem ml_pt_le (n : Int32) (p : Nat) : p ≤ ml_pt n p ∧ ml_pt n p ≤ p + 1 := by
  unfold ml_pt
  split <;> omega
theorem ml_push {post : St2 → Prop} {fc ls : Int32} {a1 a2 a3 a4 a5 a6 a7 a8 a9 a10 a11 a12 a13 a14 a15 a16 a17 a18 : Nat → Int32} {p key size : Nat} {n n' k' z' : Int32} (hn : n = -1 ∨ ∃ i, i < 512 ∧ n = nI i) (hp : p < 16) (hk : key < 64) (hz : size < 64) (en : n' = n) (ek : k' = nI key) (ez : z' = nI size)
    (H : post (fc, ls, nI (ml_pt n p), a1, a2, a3, a4, a5, a6, a7, a8, a9, a10, a11, a12, a13, a14, a15, ml_pa n p a16 n, ml_pa n p a17 (nI key), ml_pa n p a18 (nI size))) : wpX_push post (fc, ls, nI p, a1, a2, a3, a4, a5, a6, a7, a8, a9, a10, a11, a12, a13, a14, a15, a16, a17, a18) n' k' z' := by
  subst en ek ez
  have ep := nI_clamp (show p < 2 ^ 31 by omega)
  unfold wpX_push
  rcases hn with e | ⟨i, hi, e⟩
  · subst e
    rw [ml_pt_n, ml_pa_n, ml_pa_n, ml_pa_n] at H
    exact br_f (by decide) H
  · subst e
    rw [ml_pt_s (by omega), ml_pa_s (by omega), ml_pa_s (by omega), ml_pa_s (by omega)] at H
    exact br_t (nI_pos' (by omega)) ⟨pk_in p 16 hp, nm_r (by rw [ep, ml_shN i hi]) ⟨pk_in p 16 hp, nm_r (by rw [ep, ml_byN _ hk]) ⟨pk_in p 16 hp, nm_r (by rw [ep, ml_byN _ hz]) (nm_r (nI_1 p) H)⟩⟩⟩
theorem ml_C_z {P : Nat → Bool} : ∀ l q, (∀ k, k / 2 ^ l = q → P k = false) → ml_C P l q = 0 := by
  intro l
  induction l with
  | zero =>
    intro q h
    show (if P q then 1 else 0) = 0
    rw [h q (by rw [Nat.pow_zero, Nat.div_one])]
    rfl
  | succ l ih =>
    intro q h
    show ml_C P l (2 * q) + ml_C P l (2 * q + 1) = 0
    rw [ih (2 * q) (fun k hk => h k (by rw [ml_dv, hk]; omega)), ih (2 * q + 1) (fun k hk => h k (by rw [ml_dv, hk]; omega))]
/-- the part of a set below a node -/
def ml_ins (set : Int32) (key size : Int32) : Int32 := ((set.toUInt32 >>> (key.toUInt32 &&& Int32.toUInt32 31)).toInt32) &&& (((1 : Int32) <<< (size &&& 31)) - 1)
theorem ml_ins_bt (set : Int32) {l key i : Nat} (hl : l < 5) (hk : key < 32) (hi : i < 32) : ml_bt (ml_ins set (nI key) (nI (2 ^ l))) i = (ml_bt set (key + i) && decide (i < 2 ^ l)) := by
  unfold ml_ins
  rw [ml_b_and, ml_b_ushr key hk, ml_b_mask l hl i hi]
theorem ml_pow_le : ∀ l, l < 5 → 2 ^ l ≤ 16 := by decide
theorem ml_ins_0 {set : Int32} {l q : Nat} (hl : l < 5) (hq : (q + 1) * 2 ^ l ≤ 32) (h : ml_ins set (nI (q * 2 ^ l)) (nI (2 ^ l)) = 0) : ∀ k, k / 2 ^ l = q → ml_bt set k = false := by
  intro k hk
  have h2 := ml_pow_le l hl
  have hp : 0 < 2 ^ l := Nat.two_pow_pos l
  have hm := Nat.mod_lt k hp
  have hd := Nat.div_add_mod k (2 ^ l)
  rw [hk, Nat.mul_comm] at hd
  have h3 : (q + 1) * 2 ^ l = q * 2 ^ l + 2 ^ l := Nat.succ_mul q (2 ^ l)
  have hb := ml_ins_bt set (l := l) (key := q * 2 ^ l) (i := k % 2 ^ l) hl (by omega) (by omega)
  rw [h, ml_b_0, hd, decide_eq_true hm, Bool.and_true] at hb
  exact hb.symm
theorem ml_ins_1 {set : Int32} {q : Nat} (hq : q < 32) (h : ¬ ml_ins set (nI q) (nI 1) = 0) : ml_bt set q = true := by
  cases hb : ml_bt set q with
  | true => rfl
  | false =>
    exfalso
    apply h
    apply ml_b_ext
    intro i hi
    have h1 := ml_ins_bt set (l := 0) (key := q) (i := i) (by omega) hq hi
    rw [ml_b_0]
    refine h1.trans ?_
    by_cases e : i = 0
    · rw [e, Nat.add_zero, hb, Bool.false_and]
    · rw [decide_eq_false (show ¬ i < 2 ^ 0 by rw [Nat.pow_zero]; omega), Bool.and_false]
def ml_E (post : Int32 → St2 → Prop) (x2 x3 : Int32) (fc ls : Int32) (a1 a2 a3 a4 a5 a6 a7 a8 a9 a10 a11 a12 a13 a14 a15 : Nat → Int32) (cn p : Nat) (a16 a17 a18 : Nat → Int32) : Prop :=
  ∃ f, wX_changedSince_16 post x2 x3 f (nI cn) fc ls (nI p) a1 a2 a3 a4 a5 a6 a7 a8 a9 a10 a11 a12 a13 a14 a15 a16 a17 a18
/-- one entry taken off the stack -/
theorem ml_cs_pop {post : Int32 → St2 → Prop} {fc ls x2 set : Int32} {a1 a2 a3 a4 a5 a6 a7 a8 a9 a10 a11 a12 a13 a14 a15 a16 a17 a18 : Nat → Int32} {i key size cn p : Nat} (hp : p < 16) (hz : size < 64) (h16 : a16 p = nI i) (h17 : a17 p = nI key) (h18 : a18 p = nI size)
    (X : ∀ z0, (size = 32 → z0 = set) → (size ≠ 32 → z0 = ml_ins set (nI key) (nI size)) → ∃ f, wX_changedSince_88 post (wX_changedSince_16 post x2 set f) x2 set (nI cn) (nI i) (nI key) (nI size) z0 fc ls (nI p) a1 a2 a3 a4 a5 a6 a7 a8 a9 a10 a11 a12 a13 a14 a15 a16 a17 a18) :
    ml_E post x2 set fc ls a1 a2 a3 a4 a5 a6 a7 a8 a9 a10 a11 a12 a13 a14 a15 cn (p + 1) a16 a17 a18 := by
  have ep := nI_clamp (show p < 2 ^ 31 by omega)
  by_cases e : size = 32
  · obtain ⟨f, hf⟩ := X set (fun _ => rfl) (fun z => absurd e z)
    exact ⟨f + 1, br_f (nI_nle (by omega) (by omega)) (nm_r (nI_pred p) ⟨pk_in p 16 hp, nm_r (e' := nI i) (by rw [ep, h16]) ⟨pk_in p 16 hp, nm_r (e' := nI key) (by rw [ep, h17]) ⟨pk_in p 16 hp, nm_r (e' := nI size) (by rw [ep, h18]) (br_t (by rw [e]; rfl) hf)⟩⟩⟩)⟩
  · obtain ⟨f, hf⟩ := X (ml_ins set (nI key) (nI size)) (fun z => absurd z e) (fun _ => rfl)
    exact ⟨f + 1, br_f (nI_nle (by omega) (by omega)) (nm_r (nI_pred p) ⟨pk_in p 16 hp, nm_r (e' := nI i) (by rw [ep, h16]) ⟨pk_in p 16 hp, nm_r (e' := nI key) (by rw [ep, h17]) ⟨pk_in p 16 hp, nm_r (e' := nI size) (by rw [ep, h18]) (br_f (fun z => e ((nI_eq (by omega) (by omega)).mp (z.trans (show (32 : Int32) = nI 32 from rfl)))) hf)⟩⟩⟩)⟩
theorem ml_cs_or {c lv hv st : Nat → Int32} {m : Nat} {S : Nat → Nat} {H V : Nat → Int32} {l q : Nat} {n : Int32} (hm : m ≤ 512) (h : ml_tr c lv hv st m S H V l q n) : n = -1 ∨ ∃ i, i < 512 ∧ n = nI i := by
  rcases ml_tr_case h with ⟨e, _⟩ | ⟨i, _, hi, e, _⟩
  · exact Or.inl e
  · exact Or.inr ⟨i, by omega, e⟩
theorem ml_cs {post : Int32 → St2 → Prop} {fc ls set : Int32} {a1 a2 a3 a4 a5 a6 a7 a8 a9 a10 a11 a12 a13 a14 a15 : Nat → Int32} {m s : Nat} {S : Nat → Nat} {H V : Nat → Int32} (hm : m ≤ 512) (hs : s < 2 ^ 31) :
    ∀ l, l ≤ 5 → ∀ (q : Nat) (n : Int32) (cn p : Nat) (a16 a17 a18 : Nat → Int32), ml_tr a1 a2 a3 a4 m S H V l q n → (q + 1) * 2 ^ l ≤ 32 → p + l < 15 →
      (¬ n < 0 → a16 p = n ∧ a17 p = nI (q * 2 ^ l) ∧ a18 p = nI (2 ^ l)) →
      (∀ b16 b17 b18 : Nat → Int32, (∀ j, j < p → b16 j = a16 j ∧ b17 j = a17 j ∧ b18 j = a18 j) → ml_E post (nI s) set fc ls a1 a2 a3 a4 a5 a6 a7 a8 a9 a10 a11 a12 a13 a14 a15 (cn + ml_C (fun j => ml_bt set j && decide (s < S j)) l q) p b16 b17 b18) →
      ml_E post (nI s) set fc ls a1 a2 a3 a4 a5 a6 a7 a8 a9 a10 a11 a12 a13 a14 a15 cn (ml_pt n p) a16 a17 a18 := by
  intro l
  induction l with
  | zero =>
    intro hl q n cn p a16 a17 a18 h hq hp he hc
    have hc0 := hc a16 a17 a18 (fun _ _ => ⟨rfl, rfl, rfl⟩)
    rw [Nat.pow_zero, Nat.mul_one] at he hq
    rcases h with ⟨e, h⟩ | ⟨i, hi, e, hs', h1, _, _⟩
    · rw [ml_C_z 0 q (fun k hk => by rw [(h k hk).1]; simp), Nat.add_zero] at hc0
      rw [e, ml_pt_n]
      exact hc0
    · subst e
      obtain ⟨e1, e2, e3⟩ := he (nI_pos (by omega))
      rw [ml_pt_s (by omega)]
      refine ml_cs_pop (i := i) (key := q) (size := 1) (by omega) (by omega) e1 e2 e3 (fun z0 _ hz => ?_)
      have hz := hz (by omega)
      obtain ⟨f, hf⟩ := hc0
      refine ⟨f, pk_in i 512 (by omega), ?_⟩
      rw [nI_clamp (by omega), h1]
      refine pk_le (S q) s (fun g => ?_) (fun g => br_c (fun z => ?_) (fun z => br_t rfl (nm_r (nI_1 cn) ?_)))
      · rw [ml_C_z 0 q (fun k hk => by
          rw [Nat.pow_zero, Nat.div_one] at hk
          subst hk
          simp [Nat.not_lt.mpr g]), Nat.add_zero] at hf
        exact hf
      · rw [hz] at z
        have hb := ml_ins_0 (set := set) (l := 0) (q := q) (by omega) (by omega) (by rw [Nat.pow_zero, Nat.mul_one]; exact z)
        rw [ml_C_z 0 q (fun k hk => by rw [hb k hk]; rfl), Nat.add_zero] at hf
        exact hf
      · rw [hz] at z
        have hb := ml_ins_1 (by omega) z
        have eC : ml_C (fun j => ml_bt set j && decide (s < S j)) 0 q = 1 := by
          show (if (ml_bt set q && decide (s < S q)) = true then 1 else 0) = 1
          rw [hb, decide_eq_true g]
          rfl
        rw [eC] at hf
        exact hf
  | succ l ih =>
    intro hl q n cn p a16 a17 a18 h hq hp he hc
    have hc0 := hc a16 a17 a18 (fun _ _ => ⟨rfl, rfl, rfl⟩)
    rcases h with ⟨e, h⟩ | ⟨i, s', hi, e, hs', h1, h2, hL, hR⟩
    · rw [ml_C_z (l + 1) q (fun k hk => by rw [(h k hk).1]; simp), Nat.add_zero] at hc0
      rw [e, ml_pt_n]
      exact hc0
    · subst e
      obtain ⟨e1, e2, e3⟩ := he (nI_pos (by omega))
      rw [ml_pt_s (by omega)]
      have hpow : 2 ^ (l + 1) = 2 * 2 ^ l := by rw [Nat.pow_succ, Nat.mul_comm]
      have hp16 := ml_pow_le l (by omega)
      have hpos : 0 < 2 ^ l := Nat.two_pow_pos l
      have hq1 : (q + 1) * 2 ^ (l + 1) = 2 * (q * 2 ^ l) + 2 * 2 ^ l := by rw [hpow, Nat.succ_mul, Nat.mul_left_comm]
      have hq2 : q * 2 ^ (l + 1) = 2 * (q * 2 ^ l) := by rw [hpow, Nat.mul_left_comm]
      have hq3 : 2 * q * 2 ^ l = 2 * (q * 2 ^ l) := Nat.mul_assoc 2 q (2 ^ l)
      have hq4 : (2 * q + 1) * 2 ^ l = 2 * (q * 2 ^ l) + 2 ^ l := by rw [Nat.succ_mul, hq3]
      have hq5 : (2 * q + 1 + 1) * 2 ^ l = 2 * (q * 2 ^ l) + 2 ^ l + 2 ^ l := by rw [Nat.succ_mul, hq4]
      refine ml_cs_pop (i := i) (key := q * 2 ^ (l + 1)) (size := 2 ^ (l + 1)) (by omega) (by omega) e1 e2 e3 (fun z0 hz5 hz => ?_)
      by_cases g : s' ≤ s
      · obtain ⟨f, hf⟩ := hc0
        rw [ml_C_z (l + 1) q (fun k hk => by
          have := h2 k hk
          simp [show ¬ s < S k by omega]), Nat.add_zero] at hf
        refine ⟨f, pk_in i 512 (by omega), ?_⟩
        rw [nI_clamp (by omega), h1]
        exact br_t (nI_le g hs) hf
      by_cases z : z0 = 0
      · have hb : ∀ k, k / 2 ^ (l + 1) = q → ml_bt set k = false := by
          by_cases e32 : 2 ^ (l + 1) = 32
          · rw [hz5 e32] at z
            intro k _
            rw [z]
            exact ml_b_0 k
          · have hl4 : l + 1 < 5 := by
              rcases Nat.lt_or_ge (l + 1) 5 with t | t
              · exact t
              · exact absurd (by rw [show l + 1 = 5 by omega]) e32
            exact ml_ins_0 hl4 (by omega) (by rw [← hz e32]; exact z)
        obtain ⟨f, hf⟩ := hc0
        rw [ml_C_z (l + 1) q (fun k hk => by rw [hb k hk]; rfl), Nat.add_zero] at hf
        refine ⟨f, pk_in i 512 (by omega), ?_⟩
        rw [nI_clamp (by omega), h1]
        exact br_f (nI_ge (by omega) hs') (br_t z hf)
      · have R : ml_E post (nI s) set fc ls a1 a2 a3 a4 a5 a6 a7 a8 a9 a10 a11 a12 a13 a14 a15 cn (ml_pt (a1 (2 * i + 1)) (ml_pt (a1 (2 * i)) p))
            (ml_pa (a1 (2 * i + 1)) (ml_pt (a1 (2 * i)) p) (ml_pa (a1 (2 * i)) p a16 (a1 (2 * i))) (a1 (2 * i + 1)))
            (ml_pa (a1 (2 * i + 1)) (ml_pt (a1 (2 * i)) p) (ml_pa (a1 (2 * i)) p a17 (nI (q * 2 ^ (l + 1)))) (nI ((2 * q + 1) * 2 ^ l)))
            (ml_pa (a1 (2 * i + 1)) (ml_pt (a1 (2 * i)) p) (ml_pa (a1 (2 * i)) p a18 (nI (2 ^ l))) (nI (2 ^ l))) := by
          have hpt := ml_pt_le (a1 (2 * i)) p
          refine ih (by omega) (2 * q + 1) (a1 (2 * i + 1)) cn (ml_pt (a1 (2 * i)) p) _ _ _ hR (by omega) (by omega) (fun g2 => ?_) (fun b16 b17 b18 hb => ?_)
          · rcases ml_cs_or hm hR with e | ⟨i2, hi2, e⟩
            · exact absurd (by rw [e]; decide) g2
            · rw [e, ml_pa_s (by omega), ml_pa_s (by omega), ml_pa_s (by omega)]
              exact ⟨pk_us, pk_us, pk_us⟩
          · refine ih (by omega) (2 * q) (a1 (2 * i)) _ p b16 b17 b18 hL (by omega) (by omega) (fun g2 => ?_) (fun d16 d17 d18 hd => ?_)
            · rcases ml_cs_or hm hL with e | ⟨i1, hi1, e⟩
              · exact absurd (by rw [e]; decide) g2
              · obtain ⟨f1, f2, f3⟩ := hb p (by rw [e, ml_pt_s (by omega)]; omega)
                have hlt : p < ml_pt (a1 (2 * i)) p := by rw [e, ml_pt_s (by omega)]; omega
                rw [ml_pa_lo _ _ _ hlt, e, ml_pa_s (by omega), pk_us] at f1
                rw [ml_pa_lo _ _ _ hlt, e, ml_pa_s (by omega), pk_us] at f2
                rw [ml_pa_lo _ _ _ hlt, e, ml_pa_s (by omega), pk_us] at f3
                rw [e]
                exact ⟨f1, by rw [f2, hq2, hq3], f3⟩
            · have hfin := hc d16 d17 d18 (fun j hj => by
                obtain ⟨g1, g2, g3⟩ := hd j hj
                obtain ⟨f1, f2, f3⟩ := hb j (by omega)
                rw [ml_pa_lo _ _ _ (by omega), ml_pa_lo _ _ _ hj] at f1 f2 f3
                exact ⟨g1.trans f1, g2.trans f2, g3.trans f3⟩)
              have eC : cn + ml_C (fun j => ml_bt set j && decide (s < S j)) l (2 * q + 1) + ml_C (fun j => ml_bt set j && decide (s < S j)) l (2 * q) = cn + ml_C (fun j => ml_bt set j && decide (s < S j)) (l + 1) q := by
                show _ = cn + (ml_C _ l (2 * q) + ml_C _ l (2 * q + 1))
                omega
              rw [eC]
              exact hfin
        obtain ⟨f, hf⟩ := R
        have hpt := ml_pt_le (a1 (2 * i)) p
        have ei2 : (2 * nI i).toNatClampNeg = 2 * i := pk_cl (2 * i) (pk_mul 2 i)
        have ei3 : (2 * nI i + 1).toNatClampNeg = 2 * i + 1 := pk_cl (2 * i + 1) (by rw [show (2 : Int32) * nI i = nI (2 * i) from pk_mul 2 i, nI_1])
        have ed : nI (2 ^ (l + 1)) / 2 = nI (2 ^ l) := by
          have := pk_div (a := 2 ^ (l + 1)) (d := 2) (by omega) (by omega) (by omega)
          rw [show 2 ^ (l + 1) / 2 = 2 ^ l by omega] at this
          exact this
        refine ⟨f, pk_in i 512 (by omega), ?_⟩
        rw [nI_clamp (by omega), h1]
        refine br_f (nI_ge (by omega) hs') (br_f z (br_f (fun t => ?_) ⟨pk_in (2 * i) 1024 (by omega) (pk_mul 2 i), by decide, ?_⟩))
        · have := (nI_eq (a := 2 ^ (l + 1)) (b := 1) (by omega) (by omega)).mp t
          omega
        · refine ml_push (n := a1 (2 * i)) (key := q * 2 ^ (l + 1)) (size := 2 ^ l) (ml_cs_or hm hL) (by omega) (by omega) (by omega) (by rw [ei2]) rfl ed ⟨pk_in (2 * i + 1) 1024 (by omega) (by rw [show (2 : Int32) * nI i = nI (2 * i) from pk_mul 2 i, nI_1]), by decide, by decide, ?_⟩
          exact ml_push (n := a1 (2 * i + 1)) (key := (2 * q + 1) * 2 ^ l) (size := 2 ^ l) (ml_cs_or hm hR) (by omega) (by omega) (by omega) (by rw [ei3]) (by rw [ed, nI_add, hq4, hq2]) ed hf
theorem ml_since {post : Int32 → St2 → Prop} {fc ls tp : Int32} {a1 a2 a3 a4 a5 a6 a7 a8 a9 a10 a11 a12 a13 a14 a15 a16 a17 a18 : Nat → Int32} {m s : Nat} {S : Nat → Nat} {H V : Nat → Int32} {set r : Int32} (hm : m ≤ 512) (hs : s < 2 ^ 31) (htr : ml_tr a1 a2 a3 a4 m S H V 5 0 r)
    (HH : ∀ b16 b17 b18 : Nat → Int32, post (nI (ml_cnt (fun j => ml_bt set j && decide (s < S j)) 32)) (fc, ls, 0, a1, a2, a3, a4, a5, a6, a7, a8, a9, a10, a11, a12, a13, a14, a15, b16, b17, b18)) : wpX_changedSince post (fc, ls, tp, a1, a2, a3, a4, a5, a6, a7, a8, a9, a10, a11, a12, a13, a14, a15, a16, a17, a18) r (nI s) set := by
  unfold wpX_changedSince
  refine ml_push (p := 0) (n := r) (key := 0) (size := 32) (ml_cs_or hm htr) (by omega) (by omega) (by omega) rfl rfl rfl ?_
  refine ml_cs hm hs 5 (by omega) 0 r 0 0 _ _ _ htr (by omega) (by omega) (fun g => ?_) (fun b16 b17 b18 _ => ⟨1, br_t (by decide) ?_⟩)
  · rcases ml_cs_or hm htr with e | ⟨i, hi, e⟩
    · exact absurd (by rw [e]; decide) g
    · rw [e, ml_pa_s (by omega), ml_pa_s (by omega), ml_pa_s (by omega)]
      exact ⟨pk_us, pk_us, pk_us⟩
  · rw [ml_C5, Nat.zero_add]
    exact HH b16 b17 b18
theorem ml_changed {post : Int32 → St2 → Prop} {fc ls tp : Int32} {a1 a2 a3 a4 a5 a6 a7 a8 a9 a10 a11 a12 a13 a14 a15 a16 a17 a18 : Nat → Int32} {m s t k : Nat} {S : Nat → Nat} {H V : Nat → Int32} (hm : m ≤ 512) (hk : k < 2 ^ 30) (el : ls = nI k) (hst : s < t) (ht : t ≤ k) (h6 : k < s + 6) (htr : ml_tr a1 a2 a3 a4 m S H V 5 0 (a7 (t % 6)))
    (HH : ∀ b16 b17 b18 : Nat → Int32, post (nI (ml_cnt (fun j => decide (s < S j)) 32)) (fc, ls, 0, a1, a2, a3, a4, a5, a6, a7, a8, a9, a10, a11, a12, a13, a14, a15, b16, b17, b18)) : wpX_changed post (fc, ls, tp, a1, a2, a3, a4, a5, a6, a7, a8, a9, a10, a11, a12, a13, a14, a15, a16, a17, a18) (nI s) (nI t) := by
  unfold wpX_changed
  refine br_f (nI_pos (by omega)) (br_f (nI_pos (by omega)) (br_f (by rw [el]; exact nI_nlt (by omega) (by omega)) (br_f (by rw [el]; exact nI_nlt (by omega) (by omega)) (br_t (nI_lt hst (by omega)) (ml_kept hk el (by omega) h6 (br_f (by decide) ⟨by decide, pk_in (t % 6) 6 (by omega) (ml_mod6 (by omega)), ?_⟩))))))
  rw [ml_mod6 (by omega), nI_clamp (by omega)]
  refine ml_since hm (by omega) htr (fun b16 b17 b18 => ?_)
  rw [ml_cnt_congr (q := fun j => decide (s < S j)) 32 (fun j hj => by rw [ml_b_m1 j hj, Bool.true_and])]
  exact HH b16 b17 b18
theorem ml_changed_gone {post : Int32 → St2 → Prop} {fc ls tp : Int32} {a1 a2 a3 a4 a5 a6 a7 a8 a9 a10 a11 a12 a13 a14 a15 a16 a17 a18 : Nat → Int32} {s t k : Nat} (hk : k < 2 ^ 30) (el : ls = nI k) (hst : s < t) (ht : t ≤ k) (h6 : s + 6 ≤ k) (HH : post (-6) (fc, ls, tp, a1, a2, a3, a4, a5, a6, a7, a8, a9, a10, a11, a12, a13, a14, a15, a16, a17, a18)) : wpX_changed post (fc, ls, tp, a1, a2, a3, a4, a5, a6, a7, a8, a9, a10, a11, a12, a13, a14, a15, a16, a17, a18) (nI s) (nI t) := by
  unfold wpX_changed
  exact br_f (nI_pos (by omega)) (br_f (nI_pos (by omega)) (br_f (by rw [el]; exact nI_nlt (by omega) (by omega)) (br_f (by rw [el]; exact nI_nlt (by omega) (by omega)) (br_t (nI_lt hst (by omega)) (ml_notkept hk el h6 (br_t rfl HH))))))
theorem ml_changed_bad {post : Int32 → St2 → Prop} {fc ls tp : Int32} {a1 a2 a3 a4 a5 a6 a7 a8 a9 a10 a11 a12 a13 a14 a15 a16 a17 a18 : Nat → Int32} {s t k : Nat} (hk : k < 2 ^ 30) (ht : t < 2 ^ 30) (el : ls = nI k) (hsk : s ≤ k) (hb : k < t ∨ t ≤ s) (HH : post (-1) (fc, ls, tp, a1, a2, a3, a4, a5, a6, a7, a8, a9, a10, a11, a12, a13, a14, a15, a16, a17, a18)) : wpX_changed post (fc, ls, tp, a1, a2, a3, a4, a5, a6, a7, a8, a9, a10, a11, a12, a13, a14, a15, a16, a17, a18) (nI s) (nI t) := by
  unfold wpX_changed
  refine br_f (nI_pos (by omega)) (br_f (nI_pos (by omega)) (br_f (by rw [el]; exact nI_nlt (by omega) (by omega)) (pk_lt k t (fun _ => HH) (fun z => br_f (nI_nlt (by omega) (by omega)) HH) (hx := el))))
end
section
/-! ===== newNode, written ===== -/
def ml_free (a6 : Nat → Int32) : Prop := ∀ j, j < 512 → a6 j = nI (511 - j)
theorem ml_new {post : Int32 → St2 → Prop} {ls tp : Int32} {a1 a2 a3 a4 a5 a6 a7 a8 a9 a10 a11 a12 a13 a14 a15 a16 a17 a18 : Nat → Int32} {m : Nat} (hm : m < 512) (h6 : ml_free a6) (H : post (nI m) (nI (512 - (m + 1)), ls, tp, a1, a2, a3, upd a4 m ls, a5, a6, a7, a8, a9, a10, a11, a12, a13, a14, a15, a16, a17, a18)) : wpX_newNode post (nI (512 - m), ls, tp, a1, a2, a3, a4, a5, a6, a7, a8, a9, a10, a11, a12, a13, a14, a15, a16, a17, a18) := by
  have e1 : nI (512 - m) - 1 = nI (512 - (m + 1)) := by
    rw [show 512 - m = 512 - (m + 1) + 1 by omega]
    exact nI_pred _
  have e2 : a6 (512 - (m + 1)) = nI m := by
    rw [h6 _ (by omega), show 511 - (512 - (m + 1)) = m by omega]
  unfold wpX_newNode
  exact nm_r e1 ⟨pk_in (512 - (m + 1)) 512 (by omega), nm_r (e' := nI m) (by rw [nI_clamp (by omega), e2]) ⟨pk_in m 512 hm, nm_r (by rw [nI_clamp (by omega)]) H⟩⟩
/-- one copied node above -/
theorem ml_up_step {c lv hv st c' lv' hv' st' : Nat → Int32} {m b key k : Nat} {S S' : Nat → Nat} {H V H' V' : Nat → Int32} {y : Int32} (hk : k < 2 ^ 31) (hx : ml_ext m c lv hv st c' lv' hv' st')
    (ht : ml_tr c' lv' hv' st' (m + 1 + b) S' H' V' b (key / 2 ^ b) (nI (m + b))) (hS : ∀ j, S' j ≤ k) (ha : ∀ j, j ≠ key → S' j = S j ∧ H' j = H j ∧ V' j = V j)
    (hy : ml_tr c lv hv st m S H V b (2 * (key / 2 ^ (b + 1)) + 1 - key / 2 ^ b % 2) y) :
    ml_ext m c lv hv st (upd (upd c' (2 * (m + 1 + b) + key / 2 ^ b % 2) (nI (m + b))) (2 * (m + 1 + b) + 1 - key / 2 ^ b % 2) y) lv' hv' (upd st' (m + 1 + b) (nI k)) ∧
    ml_tr (upd (upd c' (2 * (m + 1 + b) + key / 2 ^ b % 2) (nI (m + b))) (2 * (m + 1 + b) + 1 - key / 2 ^ b % 2) y) lv' hv' (upd st' (m + 1 + b) (nI k)) (m + 1 + (b + 1)) S' H' V' (b + 1) (key / 2 ^ (b + 1)) (nI (m + (b + 1))) := by
  have hd := ml_dv key b
  have hs : key / 2 ^ b % 2 < 2 := Nat.mod_lt _ (by omega)
  have X : ml_ext (m + 1 + b) c' lv' hv' st' (upd (upd c' (2 * (m + 1 + b) + key / 2 ^ b % 2) (nI (m + b))) (2 * (m + 1 + b) + 1 - key / 2 ^ b % 2) y) lv' hv' (upd st' (m + 1 + b) (nI k)) := by
    intro i hi
    refine ⟨?_, ?_, rfl, rfl, ?_⟩
    · rw [pk_un (by omega), pk_un (by omega)]
    · rw [pk_un (by omega), pk_un (by omega)]
    · rw [pk_un (by omega)]
  have X2 := ml_ext_trans (show m ≤ m + 1 + b by omega) hx X
  refine ⟨X2, Or.inr ⟨m + 1 + b, k, by omega, by rw [show m + (b + 1) = m + 1 + b by omega], hk, pk_us, fun j _ => hS j, ?_, ?_⟩⟩
  · rcases Nat.mod_two_eq_zero_or_one (key / 2 ^ b) with z | z
    · rw [z] at X ⊢
      rw [pk_un (by omega), Nat.add_zero, pk_us, show 2 * (key / 2 ^ (b + 1)) = key / 2 ^ b by omega]
      rw [Nat.add_zero] at X
      exact ml_tr_ext (by omega) X ht
    · rw [z] at X2 hy ⊢
      rw [show 2 * (m + 1 + b) + 1 - 1 = 2 * (m + 1 + b) by omega] at X2 ⊢
      rw [pk_us]
      rw [show 2 * (key / 2 ^ (b + 1)) + 1 - 1 = 2 * (key / 2 ^ (b + 1)) by omega] at hy
      exact ml_tr_mono (by omega) X2 _ _ _ (fun j hj => ha j (fun e => by subst e; omega)) hy
  · rcases Nat.mod_two_eq_zero_or_one (key / 2 ^ b) with z | z
    · rw [z] at X2 hy ⊢
      rw [Nat.sub_zero] at X2 hy ⊢
      rw [pk_us]
      exact ml_tr_mono (by omega) X2 _ _ _ (fun j hj => ha j (fun e => by subst e; omega)) hy
    · rw [z] at X ⊢
      rw [pk_un (by omega), pk_us, show 2 * (key / 2 ^ (b + 1)) + 1 = key / 2 ^ b by omega]
      exact ml_tr_ext (by omega) X ht
theorem ml_up135 {post : Int32 → St2 → Prop} {ls : Int32} {a1 a2 a3 a4 a5 a6 a7 a8 a9 a10 a11 a12 a13 a14 a15 a16 a17 a18 : Nat → Int32} {c lv hv st : Nat → Int32} {m k key : Nat} {S S' : Nat → Nat} {H V H' V' : Nat → Int32} (hm : m + 6 ≤ 512) (hkey : key < 32) (h6 : ml_free a6) (hk : k < 2 ^ 31) (el : ls = nI k)
    (hS : ∀ j, S' j ≤ k) (ha : ∀ j, j ≠ key → S' j = S j ∧ H' j = H j ∧ V' j = V j) (hst : ∀ j, j < 5 → ml_tr c lv hv st m S H V (5 - j) (key / 2 ^ (5 - j)) (a16 j))
    (h0 : ml_ext m c lv hv st a1 a2 a3 a4) (h1 : ml_tr a1 a2 a3 a4 (m + 1) S' H' V' 0 key (nI m))
    (HH : ∀ c' st' : Nat → Int32, ml_ext m c lv hv st c' a2 a3 st' → ml_tr c' a2 a3 st' (m + 6) S' H' V' 5 0 (nI (m + 5)) → post (nI (m + 5)) (nI (512 - (m + 6)), ls, 0, c', a2, a3, st', a5, a6, a7, a8, a9, a10, a11, a12, a13, a14, a15, a16, a17, a18)) :
    ∃ f, wX_written_135 post (nI key) f (nI m) 0 (nI (512 - (m + 1))) ls (nI 5) a1 a2 a3 a4 a5 a6 a7 a8 a9 a10 a11 a12 a13 a14 a15 a16 a17 a18 := by
  refine pk_loop (σ := (Nat → Int32) × (Nat → Int32)) (fun n b s => wX_written_135 post (nI key) n (nI (m + b)) (nI b) (nI (512 - (m + 1 + b))) ls (nI (5 - b)) (s.1) a2 a3 (s.2) a5 a6 a7 a8 a9 a10 a11 a12 a13 a14 a15 a16 a17 a18)
    (fun b s => ml_ext m c lv hv st s.1 a2 a3 s.2 ∧ ml_tr s.1 a2 a3 s.2 (m + 1 + b) S' H' V' b (key / 2 ^ b) (nI (m + b))) 5 0 (a1, a4) (by omega) ⟨h0, by rw [Nat.pow_zero, Nat.div_one]; exact h1⟩ ?_ ?_
  · intro n s hI
    obtain ⟨i1, i2⟩ := hI
    rw [show key / 2 ^ 5 = 0 from Nat.div_eq_of_lt (by omega)] at i2
    exact pk_le 5 5 (fun _ => HH s.1 s.2 i1 i2) (fun z => absurd z (by omega))
  · intro n b s hb hI hw
    obtain ⟨i1, i2⟩ := hI
    have hold := hst (4 - b) (by omega)
    rw [show 5 - (4 - b) = b + 1 by omega] at hold
    have hs : key / 2 ^ b % 2 < 2 := Nat.mod_lt _ (by omega)
    have et : nI (5 - b) - 1 = nI (4 - b) := by
      rw [show 5 - b = 4 - b + 1 by omega]
      exact nI_pred _
    have er : (2 : Int32) * nI (m + 1 + b) = nI (2 * (m + 1 + b)) := pk_mul 2 (m + 1 + b)
    have e1 : 2 * nI (m + 1 + b) + nI (key / 2 ^ b % 2) = nI (2 * (m + 1 + b) + key / 2 ^ b % 2) := by rw [er, nI_add]
    have e2 : 2 * nI (m + 1 + b) + 1 - nI (key / 2 ^ b % 2) = nI (2 * (m + 1 + b) + 1 - key / 2 ^ b % 2) := by rw [er, nI_1, pk_sub (by omega)]
    have hlast : ∀ y : Int32, ml_tr c lv hv st m S H V b (2 * (key / 2 ^ (b + 1)) + 1 - key / 2 ^ b % 2) y →
        wX_written_135 post (nI key) n (nI (m + 1 + b)) (nI (b + 1)) (nI (512 - (m + 1 + b + 1))) ls (nI (4 - b)) (upd (upd s.1 (2 * (m + 1 + b) + key / 2 ^ b % 2) (nI (m + b))) (2 * (m + 1 + b) + 1 - key / 2 ^ b % 2) y) a2 a3 (upd s.2 (m + 1 + b) ls) a5 a6 a7 a8 a9 a10 a11 a12 a13 a14 a15 a16 a17 a18 := by
      intro y hy
      have h := hw (upd (upd s.1 (2 * (m + 1 + b) + key / 2 ^ b % 2) (nI (m + b))) (2 * (m + 1 + b) + 1 - key / 2 ^ b % 2) y, upd s.2 (m + 1 + b) (nI k)) (ml_up_step hk i1 i2 hS ha hy)
      rw [show m + (b + 1) = m + 1 + b by omega, show m + 1 + (b + 1) = m + 1 + b + 1 by omega, show 5 - (b + 1) = 4 - b by omega] at h
      rw [el] at h ⊢
      exact h
    refine pk_le 5 b (fun z => absurd z (by omega)) (fun _ => nm_r et ⟨pk_in (4 - b) 16 (by omega), nm_r (e' := a16 (4 - b)) (by rw [nI_clamp (by omega)]) (nm_r (ml_side hkey (by omega)) (ml_new (m := m + 1 + b) (by omega) h6 ⟨pk_in _ 1024 (by omega) e1, nm_r (e' := upd s.1 (2 * (m + 1 + b) + key / 2 ^ b % 2) (nI (m + b))) ?_ ?_⟩))⟩)
    · rw [e1, nI_clamp (by omega), ml_shN _ (by omega)]
    · rcases hold with ⟨e, h⟩ | ⟨i, s', hi, e, _, _, _, hL, hR⟩
      · rw [e]
        refine br_f (by decide) ⟨pk_in _ 1024 (by omega) e2, nm_r (e' := upd (upd s.1 (2 * (m + 1 + b) + key / 2 ^ b % 2) (nI (m + b))) (2 * (m + 1 + b) + 1 - key / 2 ^ b % 2) (-1)) ?_ (nm_r (nI_1 b) (hlast (-1) (ml_tr_nil (ml_nil_d h (by omega)))))⟩
        rw [e2, nI_clamp (by omega)]
      · rw [e]
        have e3 : 2 * nI i + 1 - nI (key / 2 ^ b % 2) = nI (2 * i + 1 - key / 2 ^ b % 2) := by rw [show (2 : Int32) * nI i = nI (2 * i) from pk_mul 2 i, nI_1, pk_sub (by omega)]
        have hy : ml_tr c lv hv st m S H V b (2 * (key / 2 ^ (b + 1)) + 1 - key / 2 ^ b % 2) (c (2 * i + 1 - key / 2 ^ b % 2)) := by
          rcases Nat.mod_two_eq_zero_or_one (key / 2 ^ b) with z | z
          · rw [z]
            exact hR
          · rw [z]
            exact hL
        have hc : s.1 (2 * i + 1 - key / 2 ^ b % 2) = c (2 * i + 1 - key / 2 ^ b % 2) := by
          obtain ⟨x1, x2, _⟩ := i1 i hi
          rcases Nat.mod_two_eq_zero_or_one (key / 2 ^ b) with z | z
          · rw [z]
            exact x2
          · rw [z]
            exact x1
        refine br_t (nI_pos' (by omega)) ⟨pk_in _ 1024 (by omega) e3, pk_in _ 1024 (by omega) e2, nm_r (e' := upd (upd s.1 (2 * (m + 1 + b) + key / 2 ^ b % 2) (nI (m + b))) (2 * (m + 1 + b) + 1 - key / 2 ^ b % 2) (c (2 * i + 1 - key / 2 ^ b % 2))) ?_ (nm_r (nI_1 b) (hlast _ hy))⟩
        rw [e2, e3, nI_clamp (by omega), nI_clamp (by omega), pk_un (by omega), hc, vp_nar_short, ml_tr_sh (by omega) hy]
theorem ml_down {post : Int32 → St2 → Prop} {fc ls x4 : Int32} {a1 a2 a3 a4 a5 a6 a7 a8 a9 a10 a11 a12 a13 a14 a15 : Nat → Int32} {a17 a18 c lv hv st : Nat → Int32} {m key : Nat} {S : Nat → Nat} {H V : Nat → Int32} (hm : m ≤ 512) (hkey : key < 32) (h0 : ml_ext m c lv hv st a1 a2 a3 a4)
    (HH : ∀ b16 : Nat → Int32, (∀ j, j < 5 → ml_tr c lv hv st m S H V (5 - j) (key / 2 ^ (5 - j)) (b16 j)) → ∃ f, wX_written_135 post (nI key) f x4 0 fc ls (nI 5) a1 a2 a3 a4 a5 a6 a7 a8 a9 a10 a11 a12 a13 a14 a15 (b16) a17 a18) :
    ∀ (l : Nat) (n : Int32) (a16 : Nat → Int32), l ≤ 5 → ml_tr c lv hv st m S H V l (key / 2 ^ l) n → (∀ j, j < 5 - l → ml_tr c lv hv st m S H V (5 - j) (key / 2 ^ (5 - j)) (a16 j)) →
      wX_written_72 post (nI key) x4 fc ls (l + 1) n (nI l + (-1)) (nI (5 - l)) a1 a2 a3 a4 a5 a6 a7 a8 a9 a10 a11 a12 a13 a14 a15 a16 a17 a18 := by
  intro l
  induction l with
  | zero =>
    intro n a16 _ _ hst
    exact br_t (by decide) (HH a16 hst)
  | succ l ih =>
    intro n a16 hl h hst
    rw [pk_m1]
    have hst' : ∀ j, j < 5 - l → ml_tr c lv hv st m S H V (5 - j) (key / 2 ^ (5 - j)) (upd a16 (5 - (l + 1)) n j) := by
      intro j hj
      by_cases e : j = 5 - (l + 1)
      · rw [e, pk_us, show 5 - (5 - (l + 1)) = l + 1 by omega]
        exact h
      · rw [pk_un e]
        exact hst j (by omega)
    have et : nI (5 - (l + 1)) + 1 = nI (5 - l) := by
      rw [nI_1, show 5 - (l + 1) + 1 = 5 - l by omega]
    refine br_f (nI_pos (by omega)) ⟨pk_in (5 - (l + 1)) 16 (by omega), nm_r (e' := upd a16 (5 - (l + 1)) n) ?_ (nm_r et ?_)⟩
    · rw [nI_clamp (by omega), ml_tr_sh hm h]
    · have hd := ml_dv key l
      rcases h with ⟨e, h⟩ | ⟨i, s', hi, e, _, _, _, hL, hR⟩
      · rw [e] at hst' ⊢
        exact br_t (by decide) (nm_e (ih _ _ (by omega) (ml_tr_nil (ml_nil_d h (by omega))) hst'))
      · rw [e] at hst' ⊢
        have hb : key / 2 ^ l % 2 < 2 := Nat.mod_lt _ (by omega)
        have eb : 2 * nI i + ((nI key >>> (nI l &&& 31)) &&& 1) = nI (2 * i + key / 2 ^ l % 2) := by
          rw [ml_side hkey (by omega), ← nI_add, ← pk_mul]
          rfl
        obtain ⟨x1, x2, _⟩ := h0 i hi
        refine br_f (nI_pos (by omega)) ⟨pk_in _ 1024 (by omega) eb, nm_r (e' := c (2 * i + key / 2 ^ l % 2)) ?_ (nm_e (ih _ _ (by omega) ?_ hst'))⟩
        · rw [eb, nI_clamp (by omega)]
          rcases Nat.mod_two_eq_zero_or_one (key / 2 ^ l) with z | z
          · rw [z]
            exact x1
          · rw [z]
            exact x2
        · rcases Nat.mod_two_eq_zero_or_one (key / 2 ^ l) with z | z
          · rw [z, Nat.add_zero, show key / 2 ^ l = 2 * (key / 2 ^ (l + 1)) by omega]
            exact hL
          · rw [z, show key / 2 ^ l = 2 * (key / 2 ^ (l + 1)) + 1 by omega]
            exact hR
theorem ml_written {post : Int32 → St2 → Prop} {ls tp : Int32} {a1 a2 a3 a4 a5 a6 a7 a8 a9 a10 a11 a12 a13 a14 a15 a16 a17 a18 : Nat → Int32} {m k w key : Nat} {S : Nat → Nat} {H V : Nat → Int32} {r : Int32} (hm : m + 6 ≤ 512) (hk : k < 2 ^ 31) (el : ls = nI k) (h6 : ml_free a6) (hw : w < 24) (h13 : a13 w = nI key) (hkey : key < 32)
    (hb : vp_nar .boolean (a15 w) = a15 w) (hS : ∀ j, S j ≤ k) (htr : ml_tr a1 a2 a3 a4 m S H V 5 0 r)
    (HH : ∀ c' lv' hv' st' b16 : Nat → Int32, ml_ext m a1 a2 a3 a4 c' lv' hv' st' → ml_tr c' lv' hv' st' (m + 6) (ml_up S key k) (ml_up H key (a15 w)) (ml_up V key (a14 w)) 5 0 (nI (m + 5)) → post (nI (m + 5)) (nI (512 - (m + 6)), ls, 0, c', lv', hv', st', a5, a6, a7, a8, a9, a10, a11, a12, a13, a14, a15, b16, a17, a18)) :
    wpX_written post (nI (512 - m), ls, tp, a1, a2, a3, a4, a5, a6, a7, a8, a9, a10, a11, a12, a13, a14, a15, a16, a17, a18) r (nI w) := by
  have ew := nI_clamp (show w < 2 ^ 31 by omega)
  have em : (2 : Int32) * nI m = nI (2 * m) := pk_mul 2 m
  have em1 : (2 : Int32) * nI m + 1 = nI (2 * m + 1) := by rw [em, nI_1]
  have h0 : ml_ext m a1 a2 a3 a4 (upd (upd a1 (2 * m) (-1)) (2 * m + 1) (-1)) (upd a2 m (a14 w)) (upd a3 m (a15 w)) (upd a4 m ls) := by
    intro i hi
    refine ⟨?_, ?_, ?_, ?_, ?_⟩
    · rw [pk_un (by omega), pk_un (by omega)]
    · rw [pk_un (by omega), pk_un (by omega)]
    · rw [pk_un (by omega)]
    · rw [pk_un (by omega)]
    · rw [pk_un (by omega)]
  have h1 : ml_tr (upd (upd a1 (2 * m) (-1)) (2 * m + 1) (-1)) (upd a2 m (a14 w)) (upd a3 m (a15 w)) (upd a4 m ls) (m + 1) (ml_up S key k) (ml_up H key (a15 w)) (ml_up V key (a14 w)) 0 key (nI m) := by
    refine Or.inr ⟨m, by omega, rfl, ?_, ?_, ?_, ?_⟩
    · rw [ml_ups]
      exact hk
    · rw [ml_ups, pk_us, el]
    · rw [ml_ups, pk_us]
    · rw [ml_ups, pk_us]
  have hS' : ∀ j, ml_up S key k j ≤ k := by
    intro j
    by_cases e : j = key
    · rw [e, ml_ups]
      exact Nat.le_refl k
    · rw [ml_upn e]
      exact hS j
  unfold wpX_written
  refine ⟨pk_in w 24 hw, nm_r (e' := nI key) (by rw [ew, h13]) (ml_new (by omega) h6 ⟨pk_in (2 * m) 1024 (by omega) em, nm_r (e' := upd a1 (2 * m) (-1)) ?_ ⟨pk_in (2 * m + 1) 1024 (by omega) em1, nm_r (e' := upd (upd a1 (2 * m) (-1)) (2 * m + 1) (-1)) ?_ ⟨pk_in w 24 hw, pk_in m 512 (by omega), nm_r (e' := upd a2 m (a14 w)) ?_ ⟨pk_in w 24 hw, pk_in m 512 (by omega), nm_r (e' := upd a3 m (a15 w)) ?_ ?_⟩⟩⟩⟩)⟩
  · rw [em, nI_clamp (by omega)]
  · rw [em1, nI_clamp (by omega)]
  · rw [nI_clamp (show m < 2 ^ 31 by omega), ew]
  · rw [nI_clamp (show m < 2 ^ 31 by omega), ew, hb]
  · have h := ml_down (post := post) (fc := nI (512 - (m + 1))) (ls := ls) (x4 := nI m) (a5 := a5) (a6 := a6) (a7 := a7) (a8 := a8) (a9 := a9) (a10 := a10) (a11 := a11) (a12 := a12) (a13 := a13) (a14 := a14) (a15 := a15) (a17 := a17) (a18 := a18) (m := m) (key := key) (S := S) (H := H) (V := V) (by omega) hkey h0
      (fun b16 hst => ml_up135 hm hkey h6 hk el hS' (fun j hj => ⟨ml_upn hj, ml_upn hj, ml_upn hj⟩) hst h0 h1 (fun c' st' x y => HH c' _ _ st' b16 x y)) 5 r a16 (Nat.le_refl 5) (by rw [show key / 2 ^ 5 = 0 from Nat.div_eq_of_lt (by omega)]; exact htr) (fun j hj => absurd hj (by omega))
    rw [show nI 5 + (-1) = 4 from by decide] at h
    exact ⟨6, h⟩
end
section
/-! ===== commit ===== -/
def ml_app {α : Type} (f : Nat → α) (wk : Nat → Nat) (v : Nat → α) : Nat → (Nat → α)
  | 0 => f
  | j + 1 => ml_up (ml_app f wk v j) (wk j) (v j)
theorem ml_app_le {S : Nat → Nat} {wk : Nat → Nat} {k : Nat} (h : ∀ j, S j ≤ k) : ∀ c j, ml_app S wk (fun _ => k) c j ≤ k := by
  intro c
  induction c with
  | zero => exact h
  | succ c ih =>
    intro j
    show ml_up (ml_app S wk (fun _ => k) c) (wk c) k j ≤ k
    by_cases e : j = wk c
    · rw [e, ml_ups]
      exact Nat.le_refl k
    · rw [ml_upn e]
      exact ih j
theorem ml_loop114 {post : Int32 → St2 → Prop} {a5 a6 a8 a9 a10 a11 a12 a13 a14 a15 a17 a18 o1 o2 o3 o4 o7 : Nat → Int32} {m k t c : Nat} {wk : Nat → Nat} {S : Nat → Nat} {H V : Nat → Int32} (ht : t < 4) (hm : m + 36 ≤ 512) (hk : k < 2 ^ 30) (h6 : ml_free a6)
    (h12 : a12 t = nI c) (hc : c ≤ 6) (h13 : ∀ j, j < c → a13 (6 * t + j) = nI (wk j)) (hwk : ∀ j, j < c → wk j < 32) (h15 : ∀ j, j < c → vp_nar .boolean (a15 (6 * t + j)) = a15 (6 * t + j)) (hS : ∀ j, S j ≤ k)
    (HH : ∀ c' lv' hv' st' b7 b16 : Nat → Int32, ml_ext m o1 o2 o3 o4 c' lv' hv' st' → (∀ i, i ≠ k % 6 → b7 i = o7 i) →
      ml_tr c' lv' hv' st' (m + 6 * c) (ml_app S wk (fun _ => k) c) (ml_app H wk (fun j => a15 (6 * t + j)) c) (ml_app V wk (fun j => a14 (6 * t + j)) c) 5 0 (b7 (k % 6)) →
      post (nI k) (nI (512 - (m + 6 * c)), nI k, 0, c', lv', hv', st', a5, a6, b7, a8, a9, a10, a11, a12, a13, a14, a15, b16, a17, a18)) :
    ∀ (d j : Nat) (a1 a2 a3 a4 a7 a16 : Nat → Int32), j + d = c → ml_ext m o1 o2 o3 o4 a1 a2 a3 a4 → (∀ i, i ≠ k % 6 → a7 i = o7 i) →
      ml_tr a1 a2 a3 a4 (m + 6 * j) (ml_app S wk (fun _ => k) j) (ml_app H wk (fun j => a15 (6 * t + j)) j) (ml_app V wk (fun j => a14 (6 * t + j)) j) 5 0 (a7 (k % 6)) →
      wX_commit_114 post (nI t) (d + 1) (nI (6 * t + j)) (nI (512 - (m + 6 * j))) (nI k) 0 a1 a2 a3 a4 a5 a6 a7 a8 a9 a10 a11 a12 a13 a14 a15 a16 a17 a18 := by
  have et := nI_clamp (show t < 2 ^ 31 by omega)
  have e6 : ∀ z, 6 * nI t + nI z = nI (6 * t + z) := fun z => by
    rw [← nI_add, ← pk_mul]
    rfl
  have em := ml_mod6 (show k < 2 ^ 31 by omega)
  intro d
  induction d with
  | zero =>
    intro j a1 a2 a3 a4 a7 a16 hj hx h7 htr
    have ej : j = c := by omega
    subst ej
    exact ⟨pk_in t 4 ht, pk_le (6 * t + j) (6 * t + j) (fun _ => HH a1 a2 a3 a4 a7 a16 hx h7 htr) (fun z => absurd z (by omega)) (hx := by rw [et, h12, e6])⟩
  | succ d ih =>
    intro j a1 a2 a3 a4 a7 a16 hj hx h7 htr
    refine ⟨pk_in t 4 ht, pk_le (6 * t + c) (6 * t + j) (fun z => absurd z (by omega)) (fun _ => ⟨by decide, by decide, pk_in (k % 6) 6 (by omega) em, ?_⟩) (hx := by rw [et, h12, e6])⟩
    rw [em, nI_clamp (show k % 6 < 2 ^ 31 by omega)]
    refine ml_written (m := m + 6 * j) (k := k) (key := wk j) (by omega) (by omega) rfl h6 (by omega) (h13 j (by omega)) (hwk j (by omega)) (h15 j (by omega)) (ml_app_le hS j) htr (fun c' lv' hv' st' b16 x y => ?_)
    refine ⟨pk_in (k % 6) 6 (by omega), nm_r (e' := upd a7 (k % 6) (nI (m + 6 * j + 5))) (by rw [ml_shN _ (by omega)]) (nm_r (e' := nI (6 * t + (j + 1))) (by rw [nI_1, Nat.add_assoc]) ?_)⟩
    rw [show m + 6 * j + 6 = m + 6 * (j + 1) by omega] at y ⊢
    exact ih (j + 1) c' lv' hv' st' (upd a7 (k % 6) (nI (m + 6 * j + 5))) b16 (by omega) (ml_ext_trans (by omega) hx x) (fun i hi => by rw [pk_un hi]; exact h7 i hi) (by rw [pk_us]; exact y)
theorem ml_commit {post : Int32 → St2 → Prop} {tp : Int32} {a1 a2 a3 a4 a5 a6 a7 a8 a9 a10 a11 a12 a13 a14 a15 a16 a17 a18 : Nat → Int32} {m k t c s : Nat} {wk : Nat → Nat} {S : Nat → Nat} {H V : Nat → Int32} (ht : t < 4) (ho : ¬ a8 t = 0) (hm : m + 36 ≤ 512) (hk : k + 1 < 2 ^ 30) (h6 : ml_free a6) (h9 : a9 t = nI s) (hs : s < 2 ^ 31)
    (h12 : a12 t = nI c) (hc : c ≤ 6) (h13 : ∀ j, j < c → a13 (6 * t + j) = nI (wk j)) (hwk : ∀ j, j < c → wk j < 32) (h15 : ∀ j, j < c → vp_nar .boolean (a15 (6 * t + j)) = a15 (6 * t + j)) (hS : ∀ j, S j ≤ k) (htr : ml_tr a1 a2 a3 a4 m S H V 5 0 (a7 (k % 6)))
    (hz : ml_cnt (fun j => ml_bt (a11 t) j && decide (s < S j)) 32 = 0)
    (HH : ∀ c' lv' hv' st' b7 b16 b17 b18 : Nat → Int32, ml_ext m a1 a2 a3 a4 c' lv' hv' st' → (∀ i, i ≠ (k + 1) % 6 → b7 i = a7 i) →
      ml_tr c' lv' hv' st' (m + 6 * c) (ml_app S wk (fun _ => k + 1) c) (ml_app H wk (fun j => a15 (6 * t + j)) c) (ml_app V wk (fun j => a14 (6 * t + j)) c) 5 0 (b7 ((k + 1) % 6)) →
      post (nI (k + 1)) (nI (512 - (m + 6 * c)), nI (k + 1), 0, c', lv', hv', st', a5, a6, b7, upd a8 t 0, a9, upd a10 t (-1), a11, a12, a13, a14, a15, b16, b17, b18)) :
    wpX_commit post (nI (512 - m), nI k, tp, a1, a2, a3, a4, a5, a6, a7, a8, a9, a10, a11, a12, a13, a14, a15, a16, a17, a18) (nI t) := by
  have et := nI_clamp (show t < 2 ^ 31 by omega)
  have em := ml_mod6 (show k < 2 ^ 31 by omega)
  have em1 := ml_mod6 (show k + 1 < 2 ^ 31 by omega)
  unfold wpX_commit
  refine ml_check (lo := 0) (hi := 0) ht (by omega) (by omega) (fun _ => br_t rfl ⟨pk_in t 4 ht, nm_r (e' := upd a8 t 0) (by rw [et]) ⟨by decide, pk_in (k % 6) 6 (by omega) em, nm_r (e' := a7 (k % 6)) (by rw [em, nI_clamp (by omega)]) ⟨pk_in t 4 ht, pk_in t 4 ht, ?_⟩⟩⟩) (fun z => absurd z ho)
  rw [et, h9]
  refine ml_since (by omega) hs htr (fun b16 b17 b18 => br_t (by rw [hz]; rfl) ⟨pk_in t 4 ht, nm_e (nm_r (nI_1 k) ⟨by decide, pk_in ((k + 1) % 6) 6 (by omega) em1, nm_r (e' := upd a7 ((k + 1) % 6) (a7 (k % 6))) ?_ (br_t (nI_le (a := 36) (by omega) (by omega)) (nm_r (e' := nI (6 * t + 0)) (pk_mul 6 t) ⟨c + 1, ?_⟩))⟩)⟩)
  · rw [em1, nI_clamp (by omega), ml_tr_sh (by omega) htr]
  · refine ml_loop114 ht hm hk h6 h12 hc h13 hwk h15 (fun j => Nat.le_succ_of_le (hS j)) (fun c' lv' hv' st' b7 d16 x y z => HH c' lv' hv' st' b7 d16 b17 b18 x y z) c 0 a1 a2 a3 a4 (upd a7 ((k + 1) % 6) (a7 (k % 6))) b16 (by omega) (ml_ext_refl _ _ _ _ _) (fun i hi => pk_un hi) ?_
    rw [pk_us]
    exact htr
theorem ml_commit_c {post : Int32 → St2 → Prop} {fc tp : Int32} {a1 a2 a3 a4 a5 a6 a7 a8 a9 a10 a11 a12 a13 a14 a15 a16 a17 a18 : Nat → Int32} {m k t s : Nat} {S : Nat → Nat} {H V : Nat → Int32} (ht : t < 4) (ho : ¬ a8 t = 0) (hm : m ≤ 512) (hk : k + 1 < 2 ^ 30) (h9 : a9 t = nI s) (hs : s < 2 ^ 31) (htr : ml_tr a1 a2 a3 a4 m S H V 5 0 (a7 (k % 6)))
    (hz : ¬ ml_cnt (fun j => ml_bt (a11 t) j && decide (s < S j)) 32 = 0)
    (HH : ∀ b16 b17 b18 : Nat → Int32, post (-5) (fc, nI k, 0, a1, a2, a3, a4, a5, a6, a7, upd a8 t 0, a9, upd a10 t (-1), a11, a12, a13, a14, a15, b16, b17, b18)) :
    wpX_commit post (fc, nI k, tp, a1, a2, a3, a4, a5, a6, a7, a8, a9, a10, a11, a12, a13, a14, a15, a16, a17, a18) (nI t) := by
  have et := nI_clamp (show t < 2 ^ 31 by omega)
  have em := ml_mod6 (show k < 2 ^ 31 by omega)
  have hle := ml_cnt_le (fun j => ml_bt (a11 t) j && decide (s < S j)) 32
  unfold wpX_commit
  refine ml_check (lo := 0) (hi := 0) ht (by omega) (by omega) (fun _ => br_t rfl ⟨pk_in t 4 ht, nm_r (e' := upd a8 t 0) (by rw [et]) ⟨by decide, pk_in (k % 6) 6 (by omega) em, nm_r (e' := a7 (k % 6)) (by rw [em, nI_clamp (by omega)]) ⟨pk_in t 4 ht, pk_in t 4 ht, ?_⟩⟩⟩) (fun z => absurd z ho)
  rw [et, h9]
  exact ml_since hm hs htr (fun b16 b17 b18 => br_f (nI_ne0 (by omega) (by omega)) ⟨pk_in t 4 ht, nm_e (HH b16 b17 b18)⟩)
end
section
/-! ===== the law's keys, stamps and values; the first state ===== -/
/-- the key that state i + 1 holds -/
def ml_k (b w : Nat) : Nat → Nat
  | 0 => b
  | i + 1 => (ml_k b w i + w) % 32
/-- the stamps in the tree of state i + 1 -/
def ml_S (b w : Nat) : Nat → Nat → Nat
  | 0 => fun j => if j = b then 1 else 0
  | i + 1 => fun j => if j = ml_k b w i ∨ j = ml_k b w (i + 1) then i + 2 else ml_S b w i j
def ml_H (b w i : Nat) : Nat → Int32 := fun j => if j = ml_k b w i then 1 else 0
theorem ml_k_lt {b w : Nat} (hb : b < 32) : ∀ i, ml_k b w i < 32
  | 0 => hb
  | i + 1 => Nat.mod_lt _ (by omega)
theorem ml_S_le {b w : Nat} : ∀ i j, ml_S b w i j ≤ i + 1
  | 0, j => by
    show (if j = b then 1 else 0) ≤ 1
    split <;> omega
  | i + 1, j => by
    have := ml_S_le (b := b) (w := w) i j
    show (if j = ml_k b w i ∨ j = ml_k b w (i + 1) then i + 2 else ml_S b w i j) ≤ i + 1 + 1
    split <;> omega
theorem ml_H_1 {b w i j : Nat} (h : j = ml_k b w i) : ml_H b w i j = 1 := if_pos h
theorem ml_H_0 {b w i j : Nat} (h : ¬ j = ml_k b w i) : ml_H b w i j = 0 := if_neg h
theorem ml_H_d (b w i j : Nat) : decide (¬ ml_H b w i j = 0) = decide (j = ml_k b w i) := by
  by_cases e : j = ml_k b w i
  · rw [ml_H_1 e, decide_eq_true e]
    decide
  · rw [ml_H_0 e, decide_eq_false e]
    decide
theorem ml_H_cnt {b w : Nat} (hb : b < 32) (i : Nat) : ml_cnt (fun j => decide (¬ ml_H b w i j = 0)) 32 = 1 := by
  rw [ml_cnt_congr (q := fun j => decide (j = ml_k b w i)) 32 (fun j _ => ml_H_d b w i j), ml_cnt_1, if_pos (ml_k_lt hb i)]
theorem ml_S_new (b w i j : Nat) : decide (i + 1 < ml_S b w (i + 1) j) = (decide (j = ml_k b w i) || decide (j = ml_k b w (i + 1))) := by
  have hle := ml_S_le (b := b) (w := w) i j
  by_cases e : j = ml_k b w i ∨ j = ml_k b w (i + 1)
  · have es : ml_S b w (i + 1) j = i + 2 := if_pos e
    rw [es, decide_eq_true (show i + 1 < i + 2 by omega)]
    rcases e with e | e
    · rw [decide_eq_true e, Bool.true_or]
    · rw [decide_eq_true e, Bool.or_true]
  · have es : ml_S b w (i + 1) j = ml_S b w i j := if_neg e
    rw [es, decide_eq_false (show ¬ i + 1 < ml_S b w i j by omega), decide_eq_false (fun z => e (Or.inl z)), decide_eq_false (fun z => e (Or.inr z))]
    rfl
theorem ml_S_cnt1 {b w i : Nat} (hb : b < 32) (h : ml_k b w (i + 1) = ml_k b w i) : ml_cnt (fun j => decide (i + 1 < ml_S b w (i + 1) j)) 32 = 1 := by
  rw [ml_cnt_congr (q := fun j => decide (j = ml_k b w i)) 32 (fun j _ => by rw [ml_S_new, h, Bool.or_self]), ml_cnt_1, if_pos (ml_k_lt hb i)]
theorem ml_S_cnt2 {b w i : Nat} (hb : b < 32) (h : ¬ ml_k b w (i + 1) = ml_k b w i) : ml_cnt (fun j => decide (i + 1 < ml_S b w (i + 1) j)) 32 = 2 := by
  rw [ml_cnt_congr (q := fun j => decide (j = ml_k b w i) || decide (j = ml_k b w (i + 1))) 32 (fun j _ => ml_S_new b w i j), ml_cnt_2 _ _ (fun e => h e.symm), if_pos (ml_k_lt hb i), if_pos (ml_k_lt hb (i + 1))]
/-- one turn's writes, made one by one -/
theorem ml_app_S1 {b w i : Nat} {wk : Nat → Nat} (h0 : wk 0 = ml_k b w i) (h : ml_k b w (i + 1) = ml_k b w i) : ml_app (ml_S b w i) wk (fun _ => i + 2) 1 = ml_S b w (i + 1) := by
  funext j
  show (if j = wk 0 then i + 2 else ml_S b w i j) = (if j = ml_k b w i ∨ j = ml_k b w (i + 1) then i + 2 else ml_S b w i j)
  rw [h0, h]
  by_cases e : j = ml_k b w i
  · rw [if_pos e, if_pos (Or.inl e)]
  · rw [if_neg e, if_neg (fun z => z.elim e e)]
theorem ml_app_S2 {b w i : Nat} {wk : Nat → Nat} (h0 : wk 0 = ml_k b w i) (h1 : wk 1 = ml_k b w (i + 1)) : ml_app (ml_S b w i) wk (fun _ => i + 2) 2 = ml_S b w (i + 1) := by
  funext j
  show (if j = wk 1 then i + 2 else if j = wk 0 then i + 2 else ml_S b w i j) = (if j = ml_k b w i ∨ j = ml_k b w (i + 1) then i + 2 else ml_S b w i j)
  rw [h0, h1]
  by_cases e : j = ml_k b w (i + 1)
  · rw [if_pos e, if_pos (Or.inr e)]
  · rw [if_neg e]
    by_cases e2 : j = ml_k b w i
    · rw [if_pos e2, if_pos (Or.inl e2)]
    · rw [if_neg e2, if_neg (fun z => z.elim e2 e)]
theorem ml_app_H1 {b w i : Nat} {wk : Nat → Nat} {v : Nat → Int32} (h0 : wk 0 = ml_k b w i) (v0 : v 0 = 1) (h : ml_k b w (i + 1) = ml_k b w i) : ml_app (ml_H b w i) wk v 1 = ml_H b w (i + 1) := by
  funext j
  show (if j = wk 0 then v 0 else ml_H b w i j) = ml_H b w (i + 1) j
  rw [h0, v0]
  by_cases e : j = ml_k b w i
  · rw [if_pos e, ml_H_1 (e.trans h.symm)]
  · rw [if_neg e, ml_H_0 e, ml_H_0 (by rw [h]; exact e)]
theorem ml_app_H2 {b w i : Nat} {wk : Nat → Nat} {v : Nat → Int32} (h0 : wk 0 = ml_k b w i) (h1 : wk 1 = ml_k b w (i + 1)) (v0 : v 0 = 0) (v1 : v 1 = 1) : ml_app (ml_H b w i) wk v 2 = ml_H b w (i + 1) := by
  funext j
  show (if j = wk 1 then v 1 else if j = wk 0 then v 0 else ml_H b w i j) = ml_H b w (i + 1) j
  rw [h0, h1, v0, v1]
  by_cases e : j = ml_k b w (i + 1)
  · rw [if_pos e, ml_H_1 e]
  · rw [if_neg e, ml_H_0 e]
    by_cases e2 : j = ml_k b w i
    · rw [if_pos e2]
    · rw [if_neg e2, ml_H_0 e2]
theorem ml_app_at {α : Type} {f : Nat → α} {wk : Nat → Nat} {v : Nat → α} {j : Nat} : ∀ c, j < c → (∀ i, i < c → i ≠ j → wk j ≠ wk i) → ml_app f wk v c (wk j) = v j := by
  intro c
  induction c with
  | zero => exact fun h => absurd h (by omega)
  | succ c ih =>
    intro hj hd
    show ml_up (ml_app f wk v c) (wk c) (v c) (wk j) = v j
    by_cases e : j = c
    · rw [e, ml_ups]
    · rw [ml_upn (hd c (by omega) (fun z => e z.symm))]
      exact ih (by omega) (fun i hi hn => hd i (by omega) hn)
theorem ml_and31 (x : Nat) (hx : x < 2 ^ 32) : nI x &&& 31 = nI (x % 32) := pk_andN hx 5 (by decide)
theorem ml_init {post : St2 → Prop} (HH : ∀ b6 b7 b10 : Nat → Int32, ml_free b6 → (∀ j, j < 6 → b7 j = -1) → (∀ j, j < 4 → b10 j = -1) →
    post (nI 512, 0, 0, (fun _ => 0), (fun _ => 0), (fun _ => 0), (fun _ => 0), (fun _ => 0), b6, b7, (fun _ => 0), (fun _ => 0), b10, (fun _ => 0), (fun _ => 0), (fun _ => 0), (fun _ => 0), (fun _ => 0), (fun _ => 0), (fun _ => 0), (fun _ => 0))) :
    wpX_init post 18 3730 (0, 0, 0) := by
  unfold wpX_init
  refine ⟨by decide, by decide, by decide, by decide, by decide, by decide, by decide, by decide, by decide, by decide, by decide, by decide, by decide, by decide, by decide, by decide, by decide, by decide, by decide, by decide, by decide, by decide, by decide, by decide, by decide, by decide, by decide, by decide, by decide, by decide, by decide, by decide, by decide, by decide, by decide, by decide, ?_⟩
  have h3 : ∀ (b6 b7 : Nat → Int32), ml_free b6 → (∀ j, j < 6 → b7 j = -1) → ∃ f, wX_init_207 post 18 3730 18 3730 (nI 512) 0 0 f 0 (fun _ => 0) (fun _ => 0) (fun _ => 0) (fun _ => 0) (fun _ => 0) b6 b7 (fun _ => 0) (fun _ => 0) (fun _ => 0) (fun _ => 0) (fun _ => 0) (fun _ => 0) (fun _ => 0) (fun _ => 0) (fun _ => 0) (fun _ => 0) (fun _ => 0) := by
    intro b6 b7 h6 h7
    refine pk_loop (fun n i b10 => wX_init_207 post 18 3730 18 3730 (nI 512) 0 0 n (nI i) (fun _ => 0) (fun _ => 0) (fun _ => 0) (fun _ => 0) (fun _ => 0) b6 b7 (fun _ => 0) (fun _ => 0) b10 (fun _ => 0) (fun _ => 0) (fun _ => 0) (fun _ => 0) (fun _ => 0) (fun _ => 0) (fun _ => 0) (fun _ => 0)) (fun i b10 => ∀ j, j < i → b10 j = -1) 4 0 (fun _ => 0) (by omega) (fun j hj => absurd hj (by omega)) ?_ ?_
    · intro n b10 h
      exact pk_le 4 4 (fun _ => HH b6 b7 b10 h6 h7 h) (fun z => absurd z (by omega))
    · intro n i b10 hi h hw
      exact pk_le 4 i (fun z => absurd z (by omega)) (fun _ => ⟨pk_in i 4 hi, nm_r (e' := upd b10 i (-1)) (by rw [nI_clamp (by omega)]) (nm_r (nI_1 i) (hw _ (lt_s (fun j hj => by rw [pk_un (by omega)]; exact h j hj) pk_us)))⟩)
  have h2 : ∀ b6 : Nat → Int32, ml_free b6 → ∃ f, wX_init_186 post 18 3730 18 3730 (nI 512) 0 0 f 0 (fun _ => 0) (fun _ => 0) (fun _ => 0) (fun _ => 0) (fun _ => 0) b6 (fun _ => 0) (fun _ => 0) (fun _ => 0) (fun _ => 0) (fun _ => 0) (fun _ => 0) (fun _ => 0) (fun _ => 0) (fun _ => 0) (fun _ => 0) (fun _ => 0) (fun _ => 0) := by
    intro b6 h6
    refine pk_loop (fun n i b7 => wX_init_186 post 18 3730 18 3730 (nI 512) 0 0 n (nI i) (fun _ => 0) (fun _ => 0) (fun _ => 0) (fun _ => 0) (fun _ => 0) b6 b7 (fun _ => 0) (fun _ => 0) (fun _ => 0) (fun _ => 0) (fun _ => 0) (fun _ => 0) (fun _ => 0) (fun _ => 0) (fun _ => 0) (fun _ => 0) (fun _ => 0)) (fun i b7 => ∀ j, j < i → b7 j = -1) 6 0 (fun _ => 0) (by omega) (fun j hj => absurd hj (by omega)) ?_ ?_
    · intro n b7 h
      exact pk_le 6 6 (fun _ => h3 b6 b7 h6 h) (fun z => absurd z (by omega))
    · intro n i b7 hi h hw
      exact pk_le 6 i (fun z => absurd z (by omega)) (fun _ => ⟨pk_in i 6 hi, nm_r (e' := upd b7 i (-1)) (by rw [nI_clamp (by omega)]) (nm_r (nI_1 i) (hw _ (lt_s (fun j hj => by rw [pk_un (by omega)]; exact h j hj) pk_us)))⟩)
  refine pk_loop (fun n i b6 => wX_init_153 post 18 3730 18 3730 0 0 n (nI (512 - i) + (-1)) (nI i) (fun _ => 0) (fun _ => 0) (fun _ => 0) (fun _ => 0) (fun _ => 0) b6 (fun _ => 0) (fun _ => 0) (fun _ => 0) (fun _ => 0) (fun _ => 0) (fun _ => 0) (fun _ => 0) (fun _ => 0) (fun _ => 0) (fun _ => 0) (fun _ => 0) (fun _ => 0)) (fun i b6 => ∀ j, j < i → b6 j = nI (511 - j)) 512 0 (fun _ => 0) (by omega) (fun j hj => absurd hj (by omega)) ?_ ?_
  · intro n b6 h
    exact br_t (by decide) (h2 b6 h)
  · intro n i b6 hi h hw
    have e1 : nI (512 - i) + (-1) = nI (511 - i) := by
      rw [show 512 - i = 511 - i + 1 by omega]
      exact pk_m1 _
    have hw' := hw (upd b6 i (nI (511 - i))) (lt_s (fun j hj => by rw [pk_un (by omega)]; exact h j hj) pk_us)
    rw [show 512 - (i + 1) = 511 - i by omega] at hw'
    show wX_init_153 _ _ _ _ _ _ _ (n + 1) (nI (512 - i) + (-1)) _ _ _ _ _ _ _ _ _ _ _ _ _ _ _ _ _ _ _
    rw [e1]
    exact br_f (nI_pos (by omega)) ⟨pk_in i 512 hi, nm_r (e' := upd b6 i (nI (511 - i))) (by rw [nI_clamp (by omega), ml_shN _ (by omega)]) (nm_r (nI_1 i) (nm_e hw'))⟩
end
section
/-! ===== one turn of the law's first loop ===== -/
/-- the law's state after i turns: latest is i + 1 -/
def ml_I (b w sn : Nat) (val : Int32) (i m : Nat) (fc ls : Int32) (a1 a2 a3 a4 a6 a7 a8 a9 a10 a11 a12 : Nat → Int32) : Prop :=
  m ≤ 6 + 12 * i ∧ fc = nI (512 - m) ∧ ls = nI (i + 1) ∧ ml_free a6 ∧
  (∀ s, s ≤ i → i < s + 6 → ∃ V, ml_tr a1 a2 a3 a4 m (ml_S b w s) (ml_H b w s) V 5 0 (a7 ((s + 1) % 6))) ∧
  (∃ V, ml_tr a1 a2 a3 a4 m (ml_S b w 0) (ml_H b w 0) V 5 0 (a10 3) ∧ V b = val) ∧
  a8 0 = 0 ∧ a8 3 = 1 ∧ a9 3 = nI 1 ∧ a11 3 = (1 : Int32) <<< (nI sn &&& 31) ∧ a12 3 = nI 0
def ml_tch (b w sn i : Nat) : Int32 := if 1 < ml_S b w i sn then 1 else 0
theorem ml_300 {post : Int32 → St0 → Prop} {mc ms kc ks : Nat} {J : Int32 → Int32 → Int32 → Int32 → Int32 → Int32 → (Nat → Int32) → (Nat → Int32) → (Nat → Int32) → (Nat → Int32) → (Nat → Int32) → (Nat → Int32) → (Nat → Int32) → (Nat → Int32) → (Nat → Int32) → (Nat → Int32) → (Nat → Int32) → (Nat → Int32) → (Nat → Int32) → (Nat → Int32) → (Nat → Int32) → (Nat → Int32) → (Nat → Int32) → (Nat → Int32) → Prop} {x3 x5 x6 x8 x9 z : Int32} {b w sn i m k : Nat} {fc ls tp : Int32} {a1 a2 a3 a4 a5 a6 a7 a8 a9 a10 a11 a12 a13 a14 a15 a16 a17 a18 : Nat → Int32} (hb : b < 32) (hi : i ≤ 7) (hI : ml_I b w sn x3 i m fc ls a1 a2 a3 a4 a6 a7 a8 a9 a10 a11 a12)
    (HJ : J x8 x9 (nI (k + 1)) fc ls tp a1 a2 a3 a4 a5 a6 a7 a8 a9 a10 a11 a12 a13 a14 a15 a16 a17 a18) : wL_lawOf_300 post mc ms J x3 (nI b) x5 x6 x8 x9 (nI k) z z kc ks fc ls tp a1 a2 a3 a4 a5 a6 a7 a8 a9 a10 a11 a12 a13 a14 a15 a16 a17 a18 := by
  obtain ⟨hm, _, _, _, _, ⟨V, htr, hV⟩, _, h8, _, _, h12⟩ := hI
  unfold wL_lawOf_300
  exact br_t rfl (ml_peek (t := 3) (by omega) hb (by rw [h8]; decide) h12 (by omega) htr (by rw [ml_H_1 (show b = ml_k b w 0 from rfl)]; decide) (br_t hV (nm_r (nI_1 k) HJ)))
theorem ml_224 {post : Int32 → St0 → Prop} {mc ms kc ks : Nat} {J : Int32 → Int32 → Int32 → Int32 → Int32 → Int32 → (Nat → Int32) → (Nat → Int32) → (Nat → Int32) → (Nat → Int32) → (Nat → Int32) → (Nat → Int32) → (Nat → Int32) → (Nat → Int32) → (Nat → Int32) → (Nat → Int32) → (Nat → Int32) → (Nat → Int32) → (Nat → Int32) → (Nat → Int32) → (Nat → Int32) → (Nat → Int32) → (Nat → Int32) → (Nat → Int32) → Prop} {x3 x5 x6 x8 : Int32} {b w sn i m : Nat} {V : Nat → Int32} {fc ls tp : Int32} {a1 a2 a3 a4 a5 a6 a7 a8 a9 a10 a11 a12 a13 a14 a15 a16 a17 a18 : Nat → Int32} (hb : b < 32) (hi : i < 7) (hI : ml_I b w sn x3 (i + 1) m fc ls a1 a2 a3 a4 a6 a7 a8 a9 a10 a11 a12)
    (htr : ml_tr a1 a2 a3 a4 m (ml_S b w (i + 1)) (ml_H b w (i + 1)) V 5 0 (a7 ((i + 2) % 6))) (hV : V (ml_k b w (i + 1)) = x3 + nI (i + 2))
    (HJ : ∀ b16 b17 b18 : Nat → Int32, J x8 (nI (ml_k b w (i + 1))) (nI (i + 3)) fc ls (0) a1 a2 a3 a4 a5 a6 a7 a8 a9 a10 a11 a12 a13 a14 a15 (b16) (b17) (b18)) :
    wL_lawOf_224 post mc ms J x3 (nI b) x5 x6 x8 (nI (ml_k b w (i + 1))) (nI (i + 2)) (nI (ml_k b w i)) kc ks fc ls tp a1 a2 a3 a4 a5 a6 a7 a8 a9 a10 a11 a12 a13 a14 a15 a16 a17 a18 := by
  have hm := hI.1
  have els : ls = nI (i + 2) := hI.2.2.1
  have em : nI (i + 2) - 1 = nI (i + 1) := nI_pred (i + 1)
  unfold wL_lawOf_224
  refine ml_size (s := i + 2) (k := i + 2) (by omega) els (by omega) (by omega) (by omega) htr (br_t (by rw [ml_H_cnt hb]; rfl) ?_)
  refine ml_at (s := i + 2) (k := i + 2) (by omega) els (by omega) (by omega) (ml_k_lt hb _) (by omega) htr (by rw [ml_H_1 rfl]; decide) (br_t hV ?_)
  by_cases e : ml_k b w (i + 1) = ml_k b w i
  · refine ml_has (s := i + 2) (k := i + 2) (by omega) els (by omega) (by omega) (ml_k_lt hb _) (by omega) htr (fun z => absurd z (by rw [ml_H_1 e.symm]; decide)) (fun _ => br_t (by rw [e]) ?_)
    unfold wL_lawOf_272
    refine br_t rfl ?_
    rw [em]
    refine ml_changed (s := i + 1) (t := i + 2) (k := i + 2) (by omega) (by omega) els (by omega) (by omega) (by omega) htr (fun b16 b17 b18 => br_t (by rw [e]) ?_)
    rw [ml_S_cnt1 hb e]
    exact ml_300 (i := i + 1) hb (by omega) hI (HJ b16 b17 b18)
  · have ne : ¬ nI (ml_k b w (i + 1)) = nI (ml_k b w i) := by
      have h1 := ml_k_lt (w := w) hb (i + 1)
      have h2 := ml_k_lt (w := w) hb i
      rw [nI_eq (by omega) (by omega)]
      exact e
    refine ml_has (s := i + 2) (k := i + 2) (by omega) els (by omega) (by omega) (ml_k_lt hb _) (by omega) htr (fun _ => br_f ne ?_) (fun z => absurd (ml_H_0 (fun t => e t.symm)) z)
    unfold wL_lawOf_272
    refine br_t rfl ?_
    rw [em]
    refine ml_changed (s := i + 1) (t := i + 2) (k := i + 2) (by omega) (by omega) els (by omega) (by omega) (by omega) htr (fun b16 b17 b18 => br_f ne ?_)
    rw [ml_S_cnt2 hb e]
    exact ml_300 (i := i + 1) hb (by omega) hI (HJ b16 b17 b18)
theorem ml_tch_1 {b w sn i : Nat} (h : sn = ml_k b w i ∨ sn = ml_k b w (i + 1)) : (1 : Int32) = ml_tch b w sn (i + 1) := by
  have es : ml_S b w (i + 1) sn = i + 2 := if_pos h
  unfold ml_tch
  rw [es, if_pos (by omega)]
theorem ml_tch_0 {b w sn i : Nat} (h : ¬ (sn = ml_k b w i ∨ sn = ml_k b w (i + 1))) : ml_tch b w sn i = ml_tch b w sn (i + 1) := by
  have es : ml_S b w (i + 1) sn = ml_S b w i sn := if_neg h
  unfold ml_tch
  rw [es]
theorem ml_176 {post : Int32 → St0 → Prop} {mc ms kc ks : Nat} {J : Int32 → Int32 → Int32 → Int32 → Int32 → Int32 → (Nat → Int32) → (Nat → Int32) → (Nat → Int32) → (Nat → Int32) → (Nat → Int32) → (Nat → Int32) → (Nat → Int32) → (Nat → Int32) → (Nat → Int32) → (Nat → Int32) → (Nat → Int32) → (Nat → Int32) → (Nat → Int32) → (Nat → Int32) → (Nat → Int32) → (Nat → Int32) → (Nat → Int32) → (Nat → Int32) → Prop} {x3 x5 x8 z : Int32} {b w sn i m c : Nat} {wk : Nat → Nat} {tp : Int32} {a1 a2 a3 a4 a5 a6 a7 a8 a9 a10 a11 a12 a13 a14 a15 a16 a17 a18 : Nat → Int32} (hb : b < 32) (hsn : sn < 32) (hi : i < 7) (hm : m ≤ 6 + 12 * i) (h6 : ml_free a6)
    (hT : ∀ s, s ≤ i → i < s + 6 → ∃ V, ml_tr a1 a2 a3 a4 m (ml_S b w s) (ml_H b w s) V 5 0 (a7 ((s + 1) % 6)))
    (hB : ∃ V, ml_tr a1 a2 a3 a4 m (ml_S b w 0) (ml_H b w 0) V 5 0 (a10 3) ∧ V b = x3)
    (ho : a8 0 = 1) (h83 : a8 3 = 1) (h90 : a9 0 = nI (i + 1)) (h93 : a9 3 = nI 1) (h113 : a11 3 = (1 : Int32) <<< (nI sn &&& 31)) (h123 : a12 3 = nI 0)
    (hc : c ≤ 2) (h12 : a12 0 = nI c) (h13 : ∀ j, j < c → a13 (6 * 0 + j) = nI (wk j)) (hwk : ∀ j, j < c → wk j < 32) (h15 : ∀ j, j < c → vp_nar .boolean (a15 (6 * 0 + j)) = a15 (6 * 0 + j))
    (FS : ml_app (ml_S b w i) wk (fun _ => i + 1 + 1) c = ml_S b w (i + 1)) (FH : ml_app (ml_H b w i) wk (fun j => a15 (6 * 0 + j)) c = ml_H b w (i + 1)) (FV : ∀ V : Nat → Int32, ml_app V wk (fun j => a14 (6 * 0 + j)) c (ml_k b w (i + 1)) = x3 + nI (i + 2))
    (hv : ∀ x, x < 32 → ∀ (b11 : Nat → Int32) (ps : Int32 → Prop), ps (ml_H b w (i + 1) x) → wpX_inView ps (nI (512 - m), nI (i + 1), tp, a1, a2, a3, a4, a5, a6, a7, a8, a9, a10, b11, a12, a13, a14, a15, a16, a17, a18) (nI 0) (nI x))
    (e8 : x8 = ml_tch b w sn i)
    (HJ : ∀ (m' : Nat) (fc' ls' tp' : Int32) (a1' a2' a3' a4' a5' a6' a7' a8' a9' a10' a11' a12' a13' a14' a15' a16' a17' a18' : Nat → Int32), ml_I b w sn x3 (i + 1) m' fc' ls' a1' a2' a3' a4' a6' a7' a8' a9' a10' a11' a12' → J (ml_tch b w sn (i + 1)) (nI (ml_k b w (i + 1))) (nI (i + 3)) fc' ls' tp' a1' a2' a3' a4' a5' a6' a7' a8' a9' a10' a11' a12' a13' a14' a15' a16' a17' a18') :
    wL_lawOf_176 post mc ms J x3 (nI b) x5 (nI sn) x8 (nI (ml_k b w (i + 1))) (nI (i + 2)) (nI (ml_k b w i)) z z kc ks (nI (512 - m)) (nI (i + 1)) tp a1 a2 a3 a4 a5 a6 a7 a8 a9 a10 a11 a12 a13 a14 a15 a16 a17 a18 := by
  have ho' : ¬ a8 0 = 0 := by
    rw [ho]
    decide
  have hk1 := ml_k_lt (w := w) hb (i + 1)
  have hk0 := ml_k_lt (w := w) hb i
  unfold wL_lawOf_176
  refine br_t rfl (ml_countRange (t := 0) (by omega) ho' hv (fun b11 hb11 => br_t (by rw [ml_H_cnt hb]; rfl) ?_))
  obtain ⟨V, htr⟩ := hT i (Nat.le_refl i) (by omega)
  refine ml_commit (t := 0) (k := i + 1) (s := i + 1) (wk := wk) (c := c) (by omega) ho' (by omega) (by omega) h6 h90 (by omega) h12 (by omega) h13 hwk h15 (fun j => ml_S_le i j) htr (ml_cnt_z 32 (fun j _ => ?_)) (fun c' lv' hv' st' b7 b16 b17 b18 x y t => br_t rfl ?_)
  · have := ml_S_le (b := b) (w := w) i j
    rw [decide_eq_false (show ¬ i + 1 < ml_S b w i j by omega), Bool.and_false]
  · rw [FS, FH] at t
    have hI' : ml_I b w sn x3 (i + 1) (m + 6 * c) (nI (512 - (m + 6 * c))) (nI (i + 1 + 1)) (c') (lv') (hv') (st') a6 (b7) (upd a8 0 0) a9 (upd a10 0 (-1)) (b11) a12 := by
      refine ⟨by omega, rfl, rfl, h6, fun s hs h6s => ?_, ?_, pk_us, ?_, h93, ?_, h123⟩
      · by_cases e : s = i + 1
        · subst e
          exact ⟨_, t⟩
        · obtain ⟨V', hV'⟩ := hT s (by omega) (by omega)
          refine ⟨V', ?_⟩
          rw [y _ (by omega)]
          exact ml_tr_ext (by omega) x hV'
      · obtain ⟨V', h1, h2⟩ := hB
        refine ⟨V', ?_, h2⟩
        rw [pk_un (by omega)]
        exact ml_tr_ext (by omega) x h1
      · rw [pk_un (by omega)]
        exact h83
      · rw [hb11 3 (by omega)]
        exact h113
    have X : ∀ y8, y8 = ml_tch b w sn (i + 1) → wL_lawOf_224 post mc ms J x3 (nI b) x5 (nI sn) y8 (nI (ml_k b w (i + 1))) (nI (i + 2)) (nI (ml_k b w i)) kc ks (nI (512 - (m + 6 * c))) (nI (i + 1 + 1)) (0) (c') (lv') (hv') (st') a5 a6 (b7) (upd a8 0 0) a9 (upd a10 0 (-1)) (b11) a12 a13 a14 a15 (b16) (b17) (b18) := by
      intro y8 e
      subst e
      exact ml_224 hb hi hI' t (FV V) (fun d16 d17 d18 => HJ _ (nI (512 - (m + 6 * c))) (nI (i + 1 + 1)) (0) (c') (lv') (hv') (st') a5 a6 (b7) (upd a8 0 0) a9 (upd a10 0 (-1)) (b11) a12 a13 a14 a15 (d16) (d17) (d18) hI')
    exact pk_eq (ml_k b w (i + 1)) sn (fun e => X 1 (ml_tch_1 (Or.inr e.symm))) (fun e => pk_eq (ml_k b w i) sn (fun e2 => X 1 (ml_tch_1 (Or.inl e2.symm))) (fun e2 => X x8 (e8.trans (ml_tch_0 (fun t => t.elim (fun u => e2 u.symm) (fun u => e u.symm))))))
theorem ml_nb0 : vp_nar .boolean 0 = 0 := by decide
theorem ml_nb1 : vp_nar .boolean 1 = 1 := by decide
theorem ml_turn {post : Int32 → St0 → Prop} {mc ms kc ks n : Nat} {x3 x8 : Int32} {b w sn i m : Nat} {fc ls tp : Int32} {a1 a2 a3 a4 a5 a6 a7 a8 a9 a10 a11 a12 a13 a14 a15 a16 a17 a18 : Nat → Int32} (hb : b < 32) (hw : w < 32) (hsn : sn < 32) (hi : i < 7) (hI : ml_I b w sn x3 i m fc ls a1 a2 a3 a4 a6 a7 a8 a9 a10 a11 a12) (e8 : x8 = ml_tch b w sn i)
    (HJ : ∀ (m' : Nat) (fc' ls' tp' : Int32) (a1' a2' a3' a4' a5' a6' a7' a8' a9' a10' a11' a12' a13' a14' a15' a16' a17' a18' : Nat → Int32), ml_I b w sn x3 (i + 1) m' fc' ls' a1' a2' a3' a4' a6' a7' a8' a9' a10' a11' a12' → wL_lawOf_106 post mc ms x3 (nI b) (nI w) (nI sn) kc ks n (ml_tch b w sn (i + 1)) (nI (ml_k b w (i + 1))) (nI (i + 3)) fc' ls' tp' a1' a2' a3' a4' a5' a6' a7' a8' a9' a10' a11' a12' a13' a14' a15' a16' a17' a18') :
    wL_lawOf_106 post mc ms x3 (nI b) (nI w) (nI sn) kc ks (n + 1) x8 (nI (ml_k b w i)) (nI (i + 2)) fc ls tp a1 a2 a3 a4 a5 a6 a7 a8 a9 a10 a11 a12 a13 a14 a15 a16 a17 a18 := by
  obtain ⟨hm, ef, el, h6, hT, hB, h80, h83, h93, h113, h123⟩ := hI
  subst ef el
  have hk1 := ml_k_lt (w := w) hb (i + 1)
  have hk0 := ml_k_lt (w := w) hb i
  have ek : (nI (ml_k b w i) + nI w) &&& 31 = nI (ml_k b w (i + 1)) := by
    rw [nI_add]
    exact ml_and31 _ (by omega)
  obtain ⟨V, htr⟩ := hT i (Nat.le_refl i) (by omega)
  have hB' : ∃ V, ml_tr a1 a2 a3 a4 m (ml_S b w 0) (ml_H b w 0) V 5 0 (upd a10 0 (a7 ((i + 1) % 6)) 3) ∧ V b = x3 := by
    rw [pk_un (by omega)]
    exact hB
  have hp : ∀ (a : Nat → Int32) (x : Int32), upd a 0 x 3 = a 3 := fun a x => pk_un (by omega)
  refine pk_lt 8 (i + 2) (fun z => absurd z (by omega)) (fun _ => nm_r ek ?_)
  refine ml_begin (t := 0) (k := i + 1) (by omega) (by omega) rfl h80 (ml_tr_sh (by omega) htr) (br_t (nI_pred (i + 1)).symm ?_)
  unfold wpX_erase
  refine ml_put_new (t := 0) (c := 0) (x := ml_k b w i) (by omega) hk0 (by rw [pk_us]; decide) (by omega) pk_us (fun j hj => absurd hj (by omega)) ml_nb0 (br_t rfl ?_)
  unfold wpX_write
  by_cases e : ml_k b w (i + 1) = ml_k b w i
  · refine ml_put_old (t := 0) (c := 1) (j := 0) (x := ml_k b w (i + 1)) (by omega) hk1 (by rw [pk_us]; decide) (by omega) pk_us (by omega) (by rw [e]; exact pk_us) (fun i hi => absurd hi (by omega)) ml_nb1 (br_t (by rw [e]) ?_)
    refine ml_176 (c := 1) (wk := fun _ => ml_k b w i) hb hsn hi hm h6 hT hB' pk_us (by rw [hp]; exact h83) pk_us (by rw [hp]; exact h93) (by rw [hp]; exact h113) (by rw [hp, hp]; exact h123) (by omega) pk_us ?_ (fun _ _ => hk0) ?_ (ml_app_S1 rfl e) (ml_app_H1 rfl pk_us e) ?_ ?_ e8 HJ
    · intro j hj
      have ej : j = 0 := by omega
      subst ej
      exact pk_us
    · intro j hj
      have ej : j = 0 := by omega
      subst ej
      rw [pk_us]
      exact ml_nb1
    · intro V'
      rw [e]
      show ml_up V' (ml_k b w i) _ (ml_k b w i) = _
      rw [ml_ups]
      exact pk_us
    · intro x hx b11 ps h
      refine ml_view (t := 0) (c := 1) (by omega) (by omega) hx pk_us (show m ≤ 512 by omega) (by rw [pk_us]; exact htr) (fun j hj g _ => ?_) (fun g z => ?_) (fun g z => ?_)
      · have ej : j = 0 := by omega
        subst ej
        rw [pk_us] at g ⊢
        have ex := (nI_eq (by omega) (by omega)).mp g
        rw [ml_H_1 (by rw [e]; exact ex.symm)] at h
        exact ⟨by decide, h⟩
      · have g0 := g 0 (by omega)
        rw [pk_us, nI_eq (by omega) (by omega)] at g0
        rw [ml_H_0 (by rw [e]; exact fun t => g0 t.symm)] at h
        exact h
      · have g0 := g 0 (by omega)
        rw [pk_us, nI_eq (by omega) (by omega)] at g0
        exact absurd (ml_H_0 (fun t => g0 t.symm)) z
  · have ne : ¬ nI (ml_k b w (i + 1)) = nI (ml_k b w i) := by
      rw [nI_eq (by omega) (by omega)]
      exact e
    refine ml_put_new (t := 0) (c := 1) (x := ml_k b w (i + 1)) (by omega) hk1 (by rw [pk_us]; decide) (by omega) pk_us (fun j hj => ?_) ml_nb1 (br_f ne ?_)
    · have ej : j = 0 := by omega
      subst ej
      rw [pk_us]
      exact fun t => ne t.symm
    refine ml_176 (c := 2) (wk := fun j => if j = 0 then ml_k b w i else ml_k b w (i + 1)) hb hsn hi hm h6 hT hB' pk_us (by rw [hp]; exact h83) pk_us (by rw [hp]; exact h93) (by rw [hp]; exact h113) (by rw [hp, hp, hp]; exact h123) (by omega) pk_us ?_ ?_ ?_ (ml_app_S2 rfl rfl) (ml_app_H2 rfl rfl ?_ pk_us) ?_ ?_ e8 HJ
    · intro j hj
      by_cases ej : j = 0
      · subst ej
        rw [pk_un (by omega)]
        exact pk_us
      · have ej : j = 1 := by omega
        subst ej
        exact pk_us
    · intro j hj
      by_cases ej : j = 0
      · subst ej
        exact hk0
      · have ej : j = 1 := by omega
        subst ej
        exact hk1
    · intro j hj
      by_cases ej : j = 0
      · subst ej
        rw [pk_un (by omega), pk_us]
        exact ml_nb0
      · have ej : j = 1 := by omega
        subst ej
        rw [pk_us]
        exact ml_nb1
    · show upd (upd a15 (6 * 0 + 0) 0) (6 * 0 + 1) 1 (6 * 0 + 0) = 0
      rw [pk_un (by omega)]
      exact pk_us
    · intro V'
      show ml_up _ (ml_k b w (i + 1)) _ (ml_k b w (i + 1)) = _
      rw [ml_ups]
      exact pk_us
    · intro x hx b11 ps h
      refine ml_view (t := 0) (c := 2) (by omega) (by omega) hx pk_us (show m ≤ 512 by omega) (by rw [pk_us]; exact htr) (fun j hj g _ => ?_) (fun g z => ?_) (fun g z => ?_)
      · by_cases ej : j = 0
        · subst ej
          rw [pk_un (by omega), pk_us, nI_eq (by omega) (by omega)] at g
          rw [pk_un (by omega), pk_us]
          rw [ml_H_0 (by rw [← g]; exact fun t => e t.symm)] at h
          exact ⟨by decide, h⟩
        · have ej : j = 1 := by omega
          subst ej
          rw [pk_us, nI_eq (by omega) (by omega)] at g
          rw [pk_us]
          rw [ml_H_1 g.symm] at h
          exact ⟨by decide, h⟩
      · have g1 := g 1 (by omega)
        rw [pk_us, nI_eq (by omega) (by omega)] at g1
        rw [ml_H_0 (fun t => g1 t.symm)] at h
        exact h
      · have g0 := g 0 (by omega)
        rw [pk_un (by omega), pk_us, nI_eq (by omega) (by omega)] at g0
        exact absurd (ml_H_0 (fun t => g0 t.symm)) z
end
section
/-! ===== behind the first loop: the set, its size, the six writes, the last commit ===== -/
theorem ml_key {sn j : Nat} (hsn : sn < 32) (hj : j < 32) : (nI sn + 1 + nI j) &&& 31 = nI ((sn + 1 + j) % 32) := by
  rw [nI_1, nI_add]
  exact ml_and31 _ (by omega)
theorem ml_key1 {sn : Nat} (hsn : sn < 32) : (nI sn + 1) &&& 31 = nI ((sn + 1 + 0) % 32) := by
  rw [nI_1]
  exact ml_and31 _ (by omega)
theorem ml_key3 {sn : Nat} (hsn : sn < 32) : (nI sn + 3) &&& 31 = nI ((sn + 1 + 2) % 32) := by
  rw [show nI sn + 3 = nI (sn + 3) from nI_add sn 3]
  exact ml_and31 _ (by omega)
theorem ml_conf {b w sn : Nat} {x : Int32} (hsn : sn < 32) (hx : x = (1 : Int32) <<< (nI sn &&& 31)) : ml_cnt (fun j => ml_bt x j && decide (1 < ml_S b w 7 j)) 32 = if 1 < ml_S b w 7 sn then 1 else 0 := by
  subst hx
  by_cases e : 1 < ml_S b w 7 sn
  · rw [if_pos e, ml_cnt_congr (q := fun j => decide (j = sn)) 32 (fun j hj => ?_), ml_cnt_1, if_pos hsn]
    rw [ml_b_one sn hsn j hj]
    by_cases g : j = sn
    · rw [g, decide_eq_true e, Bool.and_true]
    · rw [decide_eq_false g, Bool.false_and]
  · rw [if_neg e]
    refine ml_cnt_z 32 (fun j hj => ?_)
    rw [ml_b_one sn hsn j hj]
    by_cases g : j = sn
    · rw [g, decide_eq_false e, Bool.and_false]
    · rw [decide_eq_false g, Bool.false_and]
theorem ml_end {mc ms kc ks : Nat} {post : Int32 → St0 → Prop} {x8 : Int32} {b w sn m n : Nat} {fc ls tp : Int32} {a1 a2 a3 a4 a5 a6 a7 a8 a9 a10 a11 a12 a13 a14 a15 a16 a17 a18 : Nat → Int32} (hb : b < 32) (hsn : sn < 32) (hp : post 1 ()) (hm : m ≤ 90) (ef : fc = nI (512 - m)) (el : ls = nI 8) (h6 : ml_free a6)
    (hT : ∀ s, s ≤ 7 → 7 < s + 6 → ∃ V, ml_tr a1 a2 a3 a4 m (ml_S b w s) (ml_H b w s) V 5 0 (a7 ((s + 1) % 6)))
    (h83 : a8 3 = 1) (h93 : a9 3 = nI 1) (h113 : a11 3 = (1 : Int32) <<< (nI sn &&& 31)) (h123 : a12 3 = nI 6)
    (h13 : ∀ j, j < 6 → a13 (6 * 3 + j) = nI ((sn + 1 + j) % 32)) (h14 : ∀ j, j < 6 → a14 (6 * 3 + j) = nI j) (h15 : ∀ j, j < 6 → a15 (6 * 3 + j) = 1) (e8 : x8 = ml_tch b w sn 7) :
    wL_lawOf_516 post mc ms (nI sn) x8 kc ks (n + 1) (nI 6) fc ls tp a1 a2 a3 a4 a5 a6 a7 a8 a9 a10 a11 a12 a13 a14 a15 a16 a17 a18 := by
  subst ef el
  have ho : ¬ a8 3 = 0 := by
    rw [h83]
    decide
  have hlt : ∀ j, (sn + 1 + j) % 32 < 32 := fun j => Nat.mod_lt _ (by omega)
  refine pk_le 6 6 (fun _ => ?_) (fun z => absurd z (by omega))
  unfold wpX_write
  refine ml_put_full (t := 3) (x := sn) (by omega) hsn ho h123 (fun j hj => ?_) (br_t rfl ?_)
  · rw [h13 j hj, nI_eq (by have := hlt j; omega) (by omega)]
    omega
  rw [ml_key1 hsn]
  unfold wpX_erase
  refine ml_put_old (t := 3) (c := 6) (j := 0) (x := (sn + 1 + 0) % 32) (by omega) (hlt 0) ho (by omega) h123 (by omega) (h13 0 (by omega)) (fun i hi => absurd hi (by omega)) ml_nb0 (br_t rfl ?_)
  obtain ⟨V, htr⟩ := hT 7 (by omega) (by omega)
  by_cases g : 1 < ml_S b w 7 sn
  · have ex : x8 = 1 := e8.trans (if_pos g)
    refine br_f (by rw [ex]; decide) ?_
    refine ml_commit_c (t := 3) (k := 8) (s := 1) (by omega) ho (show m ≤ 512 by omega) (by omega) h93 (by omega) htr (by rw [ml_conf hsn h113, if_pos g]; decide) (fun b16 b17 b18 => br_t rfl ?_)
    unfold wpX_latest
    refine br_t rfl ?_
    exact ml_abort (t := 3) (by omega) pk_us (br_t rfl hp)
  · have ex : x8 = 0 := e8.trans (if_neg g)
    refine br_t ex ?_
    refine ml_commit (t := 3) (k := 8) (s := 1) (c := 6) (wk := fun j => (sn + 1 + j) % 32) (by omega) ho (by omega) (by omega) h6 h93 (by omega) h123 (by omega) h13 (fun j _ => hlt j) (fun j hj => ?_) (fun j => ml_S_le 7 j) htr (by rw [ml_conf hsn h113, if_neg g]) (fun c' lv' hv' st' b7 b16 b17 b18 x y t => br_t rfl ?_)
    · by_cases ej : j = 0
      · subst ej
        rw [pk_us]
        exact ml_nb0
      · rw [pk_un (by omega), h15 j hj]
        exact ml_nb1
    · have hd : ∀ a, a < 6 → ∀ i, i < 6 → i ≠ a → (sn + 1 + a) % 32 ≠ (sn + 1 + i) % 32 := by
        intro a ha i hi hn
        omega
      have H2 := ml_app_at (f := ml_H b w 7) (wk := fun j => (sn + 1 + j) % 32) (v := fun j => upd a15 (6 * 3 + 0) 0 (6 * 3 + j)) (j := 2) 6 (by omega) (hd 2 (by omega))
      have H0 := ml_app_at (f := ml_H b w 7) (wk := fun j => (sn + 1 + j) % 32) (v := fun j => upd a15 (6 * 3 + 0) 0 (6 * 3 + j)) (j := 0) 6 (by omega) (hd 0 (by omega))
      have V2 := ml_app_at (f := V) (wk := fun j => (sn + 1 + j) % 32) (v := fun j => upd a14 (6 * 3 + 0) 0 (6 * 3 + j)) (j := 2) 6 (by omega) (hd 2 (by omega))
      rw [pk_un (by omega), h15 2 (by omega)] at H2
      rw [pk_us] at H0
      rw [pk_un (by omega), h14 2 (by omega)] at V2
      rw [ml_key3 hsn]
      refine ml_at (s := 9) (k := 9) (by omega) rfl (by omega) (by omega) (hlt 2) (show m + 6 * 6 ≤ 512 by omega) t (by rw [H2]; decide) (br_t V2 ?_)
      refine ml_has (s := 9) (k := 9) (by omega) rfl (by omega) (by omega) (hlt 0) (show m + 6 * 6 ≤ 512 by omega) t (fun _ => br_t rfl ?_) (fun z => absurd H0 z)
      refine ml_size_gone (s := 3) (k := 9) (by omega) rfl (by omega) (br_t rfl ?_)
      obtain ⟨V4, ht4⟩ := hT 3 (by omega) (by omega)
      have ht4' := ml_tr_ext (show m ≤ m + 6 * 6 by omega) x ht4
      refine ml_size (s := 4) (k := 9) (by omega) rfl (by omega) (by omega) (show m + 6 * 6 ≤ 512 by omega) (by rw [y (4 % 6) (by omega)]; exact ht4') (br_t (by rw [ml_H_cnt hb]; rfl) hp)
theorem ml_516 {mc ms kc ks : Nat} {post : Int32 → St0 → Prop} {x8 : Int32} {b w sn m : Nat} {fc ls tp : Int32} {a1 a2 a3 a4 a5 a6 a7 a8 a9 a10 a11 a16 a17 a18 : Nat → Int32} (hb : b < 32) (hsn : sn < 32) (hp : post 1 ()) (hm : m ≤ 90) (ef : fc = nI (512 - m)) (el : ls = nI 8) (h6 : ml_free a6)
    (hT : ∀ s, s ≤ 7 → 7 < s + 6 → ∃ V, ml_tr a1 a2 a3 a4 m (ml_S b w s) (ml_H b w s) V 5 0 (a7 ((s + 1) % 6)))
    (h83 : a8 3 = 1) (h93 : a9 3 = nI 1) (h113 : a11 3 = (1 : Int32) <<< (nI sn &&& 31)) (e8 : x8 = ml_tch b w sn 7) :
    ∀ (d i : Nat) (a12 a13 a14 a15 : Nat → Int32), i + d = 6 → a12 3 = nI i → (∀ j, j < i → a13 (6 * 3 + j) = nI ((sn + 1 + j) % 32)) → (∀ j, j < i → a14 (6 * 3 + j) = nI j) → (∀ j, j < i → a15 (6 * 3 + j) = 1) →
      wL_lawOf_516 post mc ms (nI sn) x8 kc ks (d + 1) (nI i) fc ls tp a1 a2 a3 a4 a5 a6 a7 a8 a9 a10 a11 a12 a13 a14 a15 a16 a17 a18 := by
  have ho : ¬ a8 3 = 0 := by
    rw [h83]
    decide
  have hlt : ∀ j, (sn + 1 + j) % 32 < 32 := fun j => Nat.mod_lt _ (by omega)
  intro d
  induction d with
  | zero =>
    intro i a12 a13 a14 a15 hi h12 h13 h14 h15
    have ei : i = 6 := by omega
    subst ei
    exact ml_end hb hsn hp hm ef el h6 hT h83 h93 h113 h12 h13 h14 h15 e8
  | succ d ih =>
    intro i a12 a13 a14 a15 hi h12 h13 h14 h15
    refine pk_le 6 i (fun z => absurd z (by omega)) (fun _ => ?_)
    rw [ml_key hsn (by omega)]
    unfold wpX_write
    refine ml_put_new (t := 3) (c := i) (x := (sn + 1 + i) % 32) (by omega) (hlt i) ho (by omega) h12 (fun j hj => ?_) ml_nb1 (br_t (nI_1 i).symm (nm_r (nI_1 i) (ih (i + 1) _ _ _ _ (by omega) pk_us ?_ ?_ ?_)))
    · rw [h13 j hj, nI_eq (by have := hlt j; omega) (by have := hlt i; omega)]
      omega
    · exact lt_s (fun j hj => by rw [pk_un (by omega)]; exact h13 j hj) pk_us
    · exact lt_s (fun j hj => by rw [pk_un (by omega)]; exact h14 j hj) pk_us
    · exact lt_s (fun j hj => by rw [pk_un (by omega)]; exact h15 j hj) pk_us
theorem ml_473 {mc ms kc ks : Nat} {post : Int32 → St0 → Prop} {x3 x8 set : Int32} {b w sn m : Nat} {fc ls tp : Int32} {a1 a2 a3 a4 a5 a6 a7 a8 a9 a10 a11 a12 a13 a14 a15 a16 a17 a18 : Nat → Int32} (hb : b < 32) (hsn : sn < 32) (hp : post 1 ()) (hI : ml_I b w sn x3 7 m fc ls a1 a2 a3 a4 a6 a7 a8 a9 a10 a11 a12) (e8 : x8 = ml_tch b w sn 7)
    (hset : ∀ j, j < 32 → ml_bt set j = decide (4 < ml_S b w 7 j)) : ∃ f, wL_lawOf_473 post mc ms (nI sn) x8 set kc ks fc ls tp a1 a2 a3 a4 a5 a6 a7 a8 a9 a10 a11 a12 a13 a14 a15 a16 a17 a18 f 0 0 := by
  obtain ⟨hm, ef, el, h6, hT, hB, h80, h83, h93, h113, h123⟩ := hI
  refine pk_loop (σ := Unit) (fun n i _ => wL_lawOf_473 post mc ms (nI sn) x8 set kc ks fc ls tp a1 a2 a3 a4 a5 a6 a7 a8 a9 a10 a11 a12 a13 a14 a15 a16 a17 a18 n (nI (ml_cnt (ml_bt set) i)) (nI i)) (fun _ _ => True) 32 0 () (by omega) trivial ?_ ?_
  · intro n _ _
    obtain ⟨V, htr⟩ := hT 7 (by omega) (by omega)
    refine pk_le 32 32 (fun _ => ?_) (fun z => absurd z (by omega))
    refine ml_changed (s := 4) (t := 8) (k := 8) (show m ≤ 512 by omega) (by omega) el (by omega) (by omega) (by omega) htr (fun b16 b17 b18 => br_t (by rw [ml_cnt_congr 32 hset]) ⟨7, ?_⟩)
    exact ml_516 hb hsn hp (by omega) ef el h6 hT h83 h93 h113 e8 6 0 a12 a13 a14 a15 (by omega) h123 (fun j hj => absurd hj (by omega)) (fun j hj => absurd hj (by omega)) (fun j hj => absurd hj (by omega))
  · intro n i _ hi _ hw
    refine pk_le 32 i (fun z => absurd z (by omega)) (fun _ => nm_r (e' := nI (ml_cnt (ml_bt set) (i + 1))) ?_ (nm_r (nI_1 i) (hw () trivial)))
    rw [ml_b_get set hi, nI_add]
    rfl
theorem ml_420 {mc ms kc ks : Nat} {post : Int32 → St0 → Prop} {x6 x8 : Int32} {b w : Nat} {fc ls tp : Int32} {a1 a2 a3 a4 a5 a6 a7 a8 a9 a10 a11 a12 a13 a14 a15 a16 a17 a18 : Nat → Int32} (hb : b < 32) (hw : w < 32)
    (HH : ∀ set : Int32, (∀ j, j < 32 → ml_bt set j = decide (4 < ml_S b w 7 j)) → ∃ f, wL_lawOf_473 post mc ms x6 x8 set kc ks fc ls tp a1 a2 a3 a4 a5 a6 a7 a8 a9 a10 a11 a12 a13 a14 a15 a16 a17 a18 f 0 0) : ∃ f, wL_lawOf_420 post mc ms (nI w) x6 x8 kc ks fc ls tp a1 a2 a3 a4 a5 a6 a7 a8 a9 a10 a11 a12 a13 a14 a15 a16 a17 a18 f 0 (nI b) 2 := by
  refine pk_loop (fun n i set => wL_lawOf_420 post mc ms (nI w) x6 x8 kc ks fc ls tp a1 a2 a3 a4 a5 a6 a7 a8 a9 a10 a11 a12 a13 a14 a15 a16 a17 a18 n set (nI (ml_k b w i)) (nI (i + 2))) (fun i set => ∀ j, j < 32 → ml_bt set j = decide (4 < ml_S b w i j)) 7 0 0 (by omega) (fun j _ => ?_) ?_ ?_
  · have := ml_S_le (b := b) (w := w) 0 j
    rw [ml_b_0, decide_eq_false (show ¬ 4 < ml_S b w 0 j by omega)]
  · intro n set h
    exact pk_lt 8 9 (fun _ => HH set h) (fun z => absurd z (by omega))
  · intro n i set hi h hW
    have hk1 := ml_k_lt (w := w) hb (i + 1)
    have hk0 := ml_k_lt (w := w) hb i
    have ek : (nI (ml_k b w i) + nI w) &&& 31 = nI (ml_k b w (i + 1)) := by
      rw [nI_add]
      exact ml_and31 _ (by omega)
    refine pk_lt 8 (i + 2) (fun z => absurd z (by omega)) (fun _ => nm_r ek (pk_lt (i + 2) 5 (fun z => nm_r (nI_1 (i + 2)) (hW set (fun j hj => ?_))) (fun z => nm_e (nm_r (nI_1 (i + 2)) (hW _ (fun j hj => ?_))))))
    · have h1 := ml_S_le (b := b) (w := w) i j
      have h2 := ml_S_le (b := b) (w := w) (i + 1) j
      rw [h j hj, decide_eq_false (show ¬ 4 < ml_S b w i j by omega), decide_eq_false (show ¬ 4 < ml_S b w (i + 1) j by omega)]
    · rw [ml_b_or, ml_b_or, ml_b_one _ hk1 j hj, ml_b_one _ hk0 j hj, h j hj]
      by_cases e : j = ml_k b w i ∨ j = ml_k b w (i + 1)
      · have es : ml_S b w (i + 1) j = i + 2 := if_pos e
        rw [es, decide_eq_true (show 4 < i + 2 by omega)]
        rcases e with e | e
        · rw [decide_eq_true e, Bool.or_true]
        · rw [decide_eq_true e, Bool.or_true, Bool.true_or]
      · have es : ml_S b w (i + 1) j = ml_S b w i j := if_neg e
        rw [es, decide_eq_false (fun z => e (Or.inl z)), decide_eq_false (fun z => e (Or.inr z)), Bool.or_false, Bool.or_false]
theorem ml_106 {mc ms kc ks : Nat} {post : Int32 → St0 → Prop} {x3 : Int32} {b w sn : Nat} (hb : b < 32) (hw : w < 32) (hsn : sn < 32) (hp : post 1 ()) :
    ∀ (d i m : Nat) (x8 : Int32) (fc ls tp : Int32) (a1 a2 a3 a4 a5 a6 a7 a8 a9 a10 a11 a12 a13 a14 a15 a16 a17 a18 : Nat → Int32), i + d = 7 → ml_I b w sn x3 i m fc ls a1 a2 a3 a4 a6 a7 a8 a9 a10 a11 a12 → x8 = ml_tch b w sn i → wL_lawOf_106 post mc ms x3 (nI b) (nI w) (nI sn) kc ks (d + 1) x8 (nI (ml_k b w i)) (nI (i + 2)) fc ls tp a1 a2 a3 a4 a5 a6 a7 a8 a9 a10 a11 a12 a13 a14 a15 a16 a17 a18 := by
  intro d
  induction d with
  | zero =>
    intro i m x8 fc ls tp a1 a2 a3 a4 a5 a6 a7 a8 a9 a10 a11 a12 a13 a14 a15 a16 a17 a18 hi hI e8
    have ei : i = 7 := by omega
    subst ei
    have hm := hI.1
    have el : ls = nI 8 := hI.2.2.1
    obtain ⟨V3, ht3⟩ := hI.2.2.2.2.1 2 (by omega) (by omega)
    refine pk_lt 8 9 (fun _ => ?_) (fun z => absurd z (by omega))
    refine ml_size_gone (s := 2) (k := 8) (by omega) el (by omega) (br_t rfl ?_)
    refine ml_size (s := 3) (k := 8) (by omega) el (by omega) (by omega) (show m ≤ 512 by omega) ht3 (br_t (by rw [ml_H_cnt hb]; rfl) ?_)
    refine ml_size_bad (s := 9) (k := 8) (by omega) el (by omega) (br_t rfl ?_)
    refine ml_has_gone (s := 2) (k := 8) (by omega) el (by omega) (br_t rfl ?_)
    refine ml_changed_gone (s := 2) (t := 8) (k := 8) (by omega) el (by omega) (by omega) (by omega) (br_t rfl ?_)
    refine ml_changed_bad (s := 8) (t := 8) (k := 8) (by omega) (by omega) el (by omega) (by omega) (br_t rfl ?_)
    refine ml_changed_bad (s := 3) (t := 9) (k := 8) (by omega) (by omega) el (by omega) (by omega) (br_t rfl ?_)
    exact ml_420 hb hw (fun set hset => ml_473 hb hsn hp hI e8 hset)
  | succ d ih =>
    intro i m x8 fc ls tp a1 a2 a3 a4 a5 a6 a7 a8 a9 a10 a11 a12 a13 a14 a15 a16 a17 a18 hi hI e8
    exact ml_turn hb hw hsn (by omega) hI e8 (fun m' fc' ls' tp' a1' a2' a3' a4' a5' a6' a7' a8' a9' a10' a11' a12' a13' a14' a15' a16' a17' a18' h => ih (i + 1) m' _ fc' ls' tp' a1' a2' a3' a4' a5' a6' a7' a8' a9' a10' a11' a12' a13' a14' a15' a16' a17' a18' (by omega) h rfl)
end
section
/-! ===== the law ===== -/
theorem ml_cell {post : Int32 → Prop} {L : Nat} {xs : Nat → Int32} (i : Nat) (hL : L ≤ 4) (hi : i < 4) (h : ∀ r, post r) : wpL_cellAt post L xs () (nI i) := by
  unfold wpL_cellAt
  exact pk_le L i (fun _ => h _) (fun z => ⟨pk_in i L z, h _⟩)
theorem ml_upS {b w : Nat} : ml_up (fun _ => 0) b 1 = ml_S b w 0 := rfl
theorem ml_lawOf (post : Int32 → St0 → Prop) (p0 p1 p2 p3 : Int32) (hp : post 1 ()) : wpL_lawOf post 19 3751 () p0 p1 p2 p3 := by
  obtain ⟨b, hb, eb⟩ := pk_andE p0 (m := 31) 5 (by decide)
  obtain ⟨w, hw, ew⟩ := pk_andE p1 (m := 31) 5 (by decide)
  obtain ⟨sn, hsn, es⟩ := pk_andE p2 (m := 31) 5 (by decide)
  unfold wpL_lawOf
  refine nm_r eb (nm_r ew (nm_r es ⟨by decide, by decide, 18, 3730, by decide, by decide, ml_init (fun b6 b7 b10 h6 h7 h10 => ?_)⟩))
  refine ml_begin (t := 1) (k := 0) (by omega) (by omega) rfl rfl (by rw [h7 (0 % 6) (by omega)]; decide) (br_t rfl ?_)
  unfold wpX_write
  refine ml_put_new (t := 1) (c := 0) (x := b) (by omega) hb (by rw [pk_us]; decide) (by omega) pk_us (fun j hj => absurd hj (by omega)) ml_nb1 (br_t rfl ?_)
  refine ml_commit (t := 1) (k := 0) (m := 0) (s := 0) (c := 1) (wk := fun _ => b) (S := fun _ => 0) (H := fun _ => 0) (V := fun _ => 0) (by omega) (by rw [pk_us]; decide) (by omega) (by omega) h6 pk_us (by omega) pk_us (by omega) (fun j hj => ?_) (fun _ _ => hb) (fun j hj => ?_) (fun _ => Nat.le_refl 0) ?_ (ml_cnt_z 32 (fun j _ => by simp)) (fun c' lv' hv' st' d7 b16 b17 b18 x y t => br_t rfl ?_)
  · have ej : j = 0 := by omega
    subst ej
    exact pk_us
  · have ej : j = 0 := by omega
    subst ej
    rw [pk_us]
    exact ml_nb1
  · rw [h7 (0 % 6) (by omega)]
    exact ml_tr_nil (fun _ _ => ⟨rfl, rfl⟩)
  have t' : ml_tr c' lv' hv' st' 6 (ml_S b w 0) (ml_H b w 0) (ml_up (fun _ => 0) b p3) 5 0 (d7 1) := t
  refine ml_begin (t := 3) (k := 1) (by omega) (by omega) rfl rfl (ml_tr_sh (by omega) t') (br_t rfl ?_)
  have hI : ∀ x, x = (1 : Int32) <<< (nI sn &&& 31) → ml_I b w sn p3 0 6 (nI (512 - 6)) (nI (0 + 1)) c' lv' hv' st' b6 d7 (upd (upd (upd (fun _ => 0) 1 1) 1 0) 3 1) (upd (upd (fun _ => 0) 1 (nI 0)) 3 (nI 1)) (upd (upd (upd b10 1 (b7 (0 % 6))) 1 (-1)) 3 (d7 (1 % 6))) (upd (upd (upd (fun _ => 0) 1 0) 3 0) 3 x) (upd (upd (upd (fun _ => 0) 1 0) 1 (nI (0 + 1))) 3 0) := by
    intro x ex
    refine ⟨by omega, rfl, rfl, h6, fun s hs _ => ?_, ⟨_, t', ml_ups⟩, rfl, pk_us, pk_us, ?_, pk_us⟩
    · have e0 : s = 0 := by omega
      subst e0
      exact ⟨_, t'⟩
    · rw [pk_us]
      exact ex
  have e11 : (upd (upd (fun _ => 0) 1 0) 3 0) 3 ||| ((1 : Int32) <<< (nI sn &&& 31)) = (1 : Int32) <<< (nI sn &&& 31) := by
    rw [pk_us]
    apply ml_b_ext
    intro j hj
    rw [ml_b_or, ml_b_0, Bool.false_or]
  have Z : ∀ z : Int32, wL_lawOf_91 post 19 3751 p3 (nI b) (nI w) (nI sn) z z (1 + 18) (21 + 3730) (nI (512 - 6)) (nI (0 + 1)) 0 c' lv' hv' st' (fun _ => 0) b6 d7 (upd (upd (upd (fun _ => 0) 1 1) 1 0) 3 1) (upd (upd (fun _ => 0) 1 (nI 0)) 3 (nI 1)) (upd (upd (upd b10 1 (b7 (0 % 6))) 1 (-1)) 3 (d7 (1 % 6))) (upd (upd (upd (fun _ => 0) 1 0) 3 0) 3 ((upd (upd (fun _ => 0) 1 0) 3 0) 3 ||| ((1 : Int32) <<< (nI sn &&& 31)))) (upd (upd (upd (fun _ => 0) 1 0) 1 (nI (0 + 1))) 3 0) (upd (fun _ => 0) (6 * 1 + 0) (nI b)) (upd (fun _ => 0) (6 * 1 + 0) p3) (upd (fun _ => 0) (6 * 1 + 0) 1) b16 b17 b18 := by
    intro z
    unfold wL_lawOf_91
    refine br_t rfl ⟨8, ?_⟩
    have e0 : (0 : Int32) = ml_tch b w sn 0 := by
      have := ml_S_le (b := b) (w := w) 0 sn
      exact (if_neg (show ¬ 1 < ml_S b w 0 sn by omega)).symm
    exact ml_106 hb hw hsn hp 7 0 6 0 _ _ _ _ _ _ _ _ _ _ _ _ _ _ _ _ _ _ _ _ _ (by omega) (hI _ e11) e0
  refine ml_read (t := 3) (x := sn) (by omega) hsn (by rw [pk_us]; decide) pk_us (show 6 ≤ 512 by omega) (by rw [pk_us]; exact t') (fun g => ?_) (fun g => ?_)
  · have ne : ¬ sn = b := fun e => absurd g (by rw [ml_H_1 (show sn = ml_k b w 0 from e)]; decide)
    refine br_f (by rw [nI_eq (by omega) (by omega)]; exact ne) ?_
    exact Z 0
  · have e : sn = b := by
      by_cases e : sn = b
      · exact e
      · exact absurd (ml_H_0 (show ¬ sn = ml_k b w 0 from e)) g
    refine br_t (by rw [e]) ?_
    exact Z 1
theorem i_vc (xs : Nat → Int32) (L : Nat) (hL : L ≤ 4) : wpL_law (fun r => r = 1) L xs := by
  unfold wpL_law
  exact ml_cell 0 hL (by omega) (fun r1 => ml_cell 1 hL (by omega) (fun r2 => ml_cell 2 hL (by omega) (fun r3 => ml_cell 3 hL (by omega) (fun r4 => ⟨19, 3751, by decide, by decide, ml_lawOf _ r1 r2 r3 r4 rfl⟩))))
end
