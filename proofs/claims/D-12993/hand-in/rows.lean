section
/-! ===== pure rows: bits, sums, the picture ===== -/
/-- bit d of the word of live documents -/
def ws_b (al d : Nat) : Nat := al / 2 ^ d % 2
theorem ws_bit : ∀ al, al < 256 → ∀ d, d < 8 → (nI al >>> (nI d &&& 31)) &&& 1 = nI (ws_b al d) := by decide +kernel
theorem ws_b01 (al d : Nat) : ws_b al d = 0 ∨ ws_b al d = 1 := by
  have : ws_b al d < 2 := Nat.mod_lt _ (by decide)
  omega
theorem ws_or : ∀ n, n < 8 → ∀ al, al < 256 → al < 2 ^ n → nI al ||| ((1 : Int32) <<< (nI n &&& 31)) = nI (al + 2 ^ n) := by decide +kernel
theorem ws_orb : ∀ n, n < 8 → ∀ al, al < 256 → al < 2 ^ n → ∀ d, d < 8 → ws_b (al + 2 ^ n) d = if d = n then 1 else ws_b al d := by decide +kernel
/-- bit v cleared -/
def ws_clr (al v : Nat) : Nat := al - ws_b al v * 2 ^ v
theorem ws_and : ∀ v, v < 8 → ∀ al, al < 256 → nI al &&& (((1 : Int32) <<< (nI v &&& 31)) ^^^ (-1)) = nI (ws_clr al v) := by decide +kernel
theorem ws_andb : ∀ v, v < 8 → ∀ al, al < 256 → ∀ d, d < 8 → ws_b (ws_clr al v) d = if d = v then 0 else ws_b al d := by decide +kernel
theorem ws_clr_le (al v : Nat) : ws_clr al v ≤ al := Nat.sub_le _ _
theorem ws_clr0 {al v : Nat} (h : ws_b al v = 0) : ws_clr al v = al := by
  unfold ws_clr
  rw [h, Nat.zero_mul, Nat.sub_zero]
theorem ws_p8 {n al : Nat} (hn : n ≤ 8) (h : al < 2 ^ n) : al < 256 := by
  have : 2 ^ n ≤ 2 ^ 8 := Nat.pow_le_pow_right (by decide) hn
  have e : (2 : Nat) ^ 8 = 256 := rfl
  omega
theorem ws_hi {n al d : Nat} (h : al < 2 ^ n) (hd : n ≤ d) : ws_b al d = 0 := by
  unfold ws_b
  have : 2 ^ n ≤ 2 ^ d := Nat.pow_le_pow_right (by decide) hd
  rw [Nat.div_eq_of_lt (by omega)]
/-- sums -/
def ws_sum (f : Nat → Nat) : Nat → Nat
  | 0 => 0
  | k + 1 => ws_sum f k + f k
theorem ws_sum_s (f : Nat → Nat) (k : Nat) : ws_sum f (k + 1) = ws_sum f k + f k := rfl
theorem ws_sum_z {f : Nat → Nat} {a : Nat} : ∀ b, a ≤ b → (∀ d, a ≤ d → d < b → f d = 0) → ws_sum f b = ws_sum f a
  | 0, h, _ => by
    have : a = 0 := by omega
    rw [this]
  | b + 1, h, z => by
    by_cases e : a = b + 1
    · rw [e]
    · rw [ws_sum_s, z b (by omega) (by omega), Nat.add_zero]
      exact ws_sum_z b (by omega) (fun d h1 h2 => z d h1 (by omega))
theorem ws_sum_le {f : Nat → Nat} {B : Nat} : ∀ k, (∀ d, d < k → f d ≤ B) → ws_sum f k ≤ k * B
  | 0, _ => Nat.zero_le _
  | k + 1, h => by
    have h1 := ws_sum_le k (fun d hd => h d (by omega))
    have h2 := h k (by omega)
    rw [ws_sum_s, Nat.add_mul, Nat.one_mul]
    omega
theorem ws_sum_c {f g : Nat → Nat} : ∀ k, (∀ d, d < k → f d = g d) → ws_sum f k = ws_sum g k
  | 0, _ => rfl
  | k + 1, h => by rw [ws_sum_s, ws_sum_s, ws_sum_c k (fun d hd => h d (by omega)), h k (by omega)]
/-- a proposition as a number -/
noncomputable def ws_01 (P : Prop) : Nat := @ite Nat P (Classical.propDecidable P) 1 0
theorem ws_01t {P : Prop} (h : P) : ws_01 P = 1 := if_pos h
theorem ws_01f {P : Prop} (h : ¬ P) : ws_01 P = 0 := if_neg h
theorem ws_01d (P : Prop) : (P ∧ ws_01 P = 1) ∨ (¬ P ∧ ws_01 P = 0) := (Classical.em P).elim (fun h => Or.inl ⟨h, ws_01t h⟩) (fun h => Or.inr ⟨h, ws_01f h⟩)
/-- document d is live and has word t -/
noncomputable def ws_g (al : Nat) (c : Nat → Nat → Nat) (t d : Nat) : Nat := ws_01 (ws_b al d = 1 ∧ 0 < c d t)
theorem ws_g1 {al : Nat} {c : Nat → Nat → Nat} {t d : Nat} (h : ws_b al d = 1) (h2 : 0 < c d t) : ws_g al c t d = 1 := ws_01t ⟨h, h2⟩
theorem ws_g0b {al : Nat} {c : Nat → Nat → Nat} {t d : Nat} (h : ws_b al d = 0) : ws_g al c t d = 0 := ws_01f (fun z => by rw [h] at z; exact absurd z.1 (by decide))
theorem ws_g0c {al : Nat} {c : Nat → Nat → Nat} {t d : Nat} (h : c d t = 0) : ws_g al c t d = 0 := ws_01f (fun z => by rw [h] at z; exact absurd z.2 (by decide))
theorem ws_gb {al : Nat} {c : Nat → Nat → Nat} {t d : Nat} (h : 0 < c d t) : ws_g al c t d = ws_b al d := by
  rcases ws_b01 al d with e | e
  · rw [ws_g0b e, e]
  · rw [ws_g1 e h, e]
theorem ws_gI {al : Nat} {c : Nat → Nat → Nat} {t d : Nat} (h : ws_g al c t d = 1) : ws_b al d = 1 ∧ 0 < c d t := by
  rcases ws_01d (ws_b al d = 1 ∧ 0 < c d t) with ⟨a, _⟩ | ⟨_, a⟩
  · exact a
  · unfold ws_g at h
    omega
theorem ws_gO {al : Nat} {c : Nat → Nat → Nat} {t d : Nat} (h : ws_g al c t d = 0) (hb : ws_b al d = 1) : c d t = 0 := by
  rcases Nat.eq_zero_or_pos (c d t) with e | e
  · exact e
  · rw [ws_g1 hb e] at h
    omega
theorem ws_g_le (al : Nat) (c : Nat → Nat → Nat) (t d : Nat) : ws_g al c t d ≤ 1 := by
  unfold ws_g
  rcases ws_01d (ws_b al d = 1 ∧ 0 < c d t) with ⟨_, a⟩ | ⟨_, a⟩ <;> omega
noncomputable def ws_all (al : Nat) : Nat := ws_sum (ws_b al) 8
noncomputable def ws_spr (al : Nat) (c : Nat → Nat → Nat) (t : Nat) : Nat := ws_sum (ws_g al c t) 8
theorem ws_all_le (al : Nat) : ws_all al ≤ 8 := ws_sum_le (B := 1) 8 (fun d _ => by rcases ws_b01 al d with e | e <;> omega)
theorem ws_spr_le (al : Nat) (c : Nat → Nat → Nat) (t : Nat) : ws_spr al c t ≤ 8 := ws_sum_le (B := 1) 8 (fun d _ => ws_g_le al c t d)
/-- strength, weight, term, score -/
def ws_st (k len : Nat) : Nat := if k = 0 then 0 else 256 * k / (k + 2 + len / 4)
theorem ws_st_le (k len : Nat) : ws_st k len ≤ 256 := by
  unfold ws_st
  split
  · omega
  · apply Nat.div_le_of_le_mul
    rw [Nat.add_mul, Nat.add_mul]
    omega
theorem ws_st0 (len : Nat) : ws_st 0 len = 0 := rfl
theorem ws_stN : ∀ k, k < 8 → ∀ len, len < 15 → 0 < k → ¬ ((nI k + 2) + (nI len / 4)) = 0 ∧ (256 * nI k) / ((nI k + 2) + (nI len / 4)) = nI (ws_st k len) := by decide +kernel
noncomputable def ws_ra (al : Nat) (c : Nat → Nat → Nat) (t : Nat) : Nat := 64 * (ws_all al + 1) / (ws_spr al c t + 1)
noncomputable def ws_wt (al : Nat) (c : Nat → Nat → Nat) (b : Nat → Nat) (t : Nat) : Nat := b t % 10 * ws_ra al c t
noncomputable def ws_tm (al : Nat) (c : Nat → Nat → Nat) (b : Nat → Nat) (d t : Nat) : Nat := if b t < 20 ∧ 0 < c d t then ws_wt al c b t * ws_st (c d t) (c d 0 + c d 1) else 0
noncomputable def ws_sc (al : Nat) (c : Nat → Nat → Nat) (b : Nat → Nat) (d : Nat) : Nat := ws_tm al c b d 0 + ws_tm al c b d 1
theorem ws_ra_le (al : Nat) (c : Nat → Nat → Nat) (t : Nat) : ws_ra al c t ≤ 576 := by
  have h := ws_all_le al
  refine Nat.le_trans (Nat.div_le_self _ _) ?_
  omega
theorem ws_wt_le (al : Nat) (c : Nat → Nat → Nat) (b : Nat → Nat) (t : Nat) : ws_wt al c b t ≤ 5184 := by
  have h1 : b t % 10 ≤ 9 := by omega
  exact Nat.mul_le_mul h1 (ws_ra_le al c t)
theorem ws_tm_le (al : Nat) (c : Nat → Nat → Nat) (b : Nat → Nat) (d t : Nat) : ws_tm al c b d t ≤ 1327104 := by
  unfold ws_tm
  split
  · exact Nat.mul_le_mul (ws_wt_le al c b t) (ws_st_le _ _)
  · omega
theorem ws_sc_le (al : Nat) (c : Nat → Nat → Nat) (b : Nat → Nat) (d : Nat) : ws_sc al c b d ≤ 2654208 := by
  have h1 := ws_tm_le al c b d 0
  have h2 := ws_tm_le al c b d 1
  unfold ws_sc
  omega
/-- which documents match -/
def ws_bad (c : Nat → Nat → Nat) (b : Nat → Nat) (d t : Nat) : Prop := (b t = 0 ∧ 0 < c d t) ∨ (10 < b t ∧ b t < 20 ∧ c d t = 0)
def ws_so (c : Nat → Nat → Nat) (b : Nat → Nat) (d t : Nat) : Prop := 0 < b t ∧ b t < 20 ∧ 0 < c d t
def ws_mt (c : Nat → Nat → Nat) (b : Nat → Nat) (d : Nat) : Prop := (∀ t, t < 2 → ¬ ws_bad c b d t) ∧ ∃ t, t < 2 ∧ ws_so c b d t
noncomputable def ws_in (al : Nat) (c : Nat → Nat → Nat) (b : Nat → Nat) (d : Nat) : Nat := ws_01 (ws_b al d = 1 ∧ ws_mt c b d)
noncomputable def ws_cnt (al : Nat) (c : Nat → Nat → Nat) (b : Nat → Nat) (i : Nat) : Nat := ws_sum (ws_in al c b) i
theorem ws_in_le (al : Nat) (c : Nat → Nat → Nat) (b : Nat → Nat) (d : Nat) : ws_in al c b d ≤ 1 := by
  unfold ws_in
  rcases ws_01d (ws_b al d = 1 ∧ ws_mt c b d) with ⟨_, a⟩ | ⟨_, a⟩ <;> omega
theorem ws_in0 {al : Nat} {c : Nat → Nat → Nat} {b : Nat → Nat} {d : Nat} (h : ¬ (ws_b al d = 1 ∧ ws_mt c b d)) : ws_in al c b d = 0 := ws_01f h
theorem ws_in1 {al : Nat} {c : Nat → Nat → Nat} {b : Nat → Nat} {d : Nat} (h : ws_b al d = 1) (h2 : ws_mt c b d) : ws_in al c b d = 1 := ws_01t ⟨h, h2⟩
theorem ws_cnt_le (al : Nat) (c : Nat → Nat → Nat) (b : Nat → Nat) (i : Nat) : ws_cnt al c b i ≤ i := by
  have := ws_sum_le (B := 1) i (fun d _ => ws_in_le al c b d)
  unfold ws_cnt
  omega
theorem ws_cnt_s (al : Nat) (c : Nat → Nat → Nat) (b : Nat → Nat) (i : Nat) : ws_cnt al c b (i + 1) = ws_cnt al c b i + ws_in al c b i := rfl
/-- the greatest score so far, and the first document that has it -/
noncomputable def ws_M (al : Nat) (c : Nat → Nat → Nat) (b : Nat → Nat) : Nat → Nat
  | 0 => 0
  | i + 1 => if ws_in al c b i = 1 ∧ (ws_cnt al c b i = 0 ∨ ws_M al c b i < ws_sc al c b i) then ws_sc al c b i else ws_M al c b i
noncomputable def ws_B (al : Nat) (c : Nat → Nat → Nat) (b : Nat → Nat) : Nat → Nat
  | 0 => 0
  | i + 1 => if ws_in al c b i = 1 ∧ (ws_cnt al c b i = 0 ∨ ws_M al c b i < ws_sc al c b i) then i else ws_B al c b i
theorem ws_M_s (al : Nat) (c : Nat → Nat → Nat) (b : Nat → Nat) (i : Nat) : ws_M al c b (i + 1) = if ws_in al c b i = 1 ∧ (ws_cnt al c b i = 0 ∨ ws_M al c b i < ws_sc al c b i) then ws_sc al c b i else ws_M al c b i := rfl
theorem ws_B_s (al : Nat) (c : Nat → Nat → Nat) (b : Nat → Nat) (i : Nat) : ws_B al c b (i + 1) = if ws_in al c b i = 1 ∧ (ws_cnt al c b i = 0 ∨ ws_M al c b i < ws_sc al c b i) then i else ws_B al c b i := rfl
theorem ws_M_le (al : Nat) (c : Nat → Nat → Nat) (b : Nat → Nat) : ∀ i, ws_M al c b i ≤ 2654208
  | 0 => Nat.zero_le _
  | i + 1 => by
    rw [ws_M_s]
    split
    · exact ws_sc_le al c b i
    · exact ws_M_le al c b i
theorem ws_skip {al : Nat} {c : Nat → Nat → Nat} {b : Nat → Nat} {f : Nat} : ∀ z, f ≤ z → (∀ d, f ≤ d → d < z → ws_in al c b d = 0) → ws_cnt al c b z = ws_cnt al c b f ∧ ws_M al c b z = ws_M al c b f ∧ ws_B al c b z = ws_B al c b f
  | 0, h, _ => by
    have : f = 0 := by omega
    subst this
    exact ⟨rfl, rfl, rfl⟩
  | z + 1, h, q => by
    by_cases e : f = z + 1
    · subst e
      exact ⟨rfl, rfl, rfl⟩
    · have r := ws_skip z (by omega) (fun d h1 h2 => q d h1 (by omega))
      have q0 := q z (by omega) (by omega)
      have ne : ¬ (ws_in al c b z = 1 ∧ (ws_cnt al c b z = 0 ∨ ws_M al c b z < ws_sc al c b z)) := fun w => by
        have := w.1
        omega
      rw [ws_cnt_s, ws_M_s, ws_B_s, if_neg ne, if_neg ne, q0]
      exact r
/-- an answer: -2 where nothing is found -/
def ws_ans (k x : Nat) : Int32 := if k = 0 then (-2 : Int32) else nI x
theorem ws_ans0 (x : Nat) : ws_ans 0 x = -2 := rfl
theorem ws_ansP {k x : Nat} (h : 0 < k) : ws_ans k x = nI x := if_neg (by omega)
/-- index arithmetic -/
theorem ws_ix (w y : Nat) : (48 : Int32) * nI w + nI y = nI (48 * w + y) := by
  rw [show (48 : Int32) = nI 48 from rfl, pk_mul, nI_add]
theorem ws_ix1 (w y : Nat) : (48 : Int32) * nI w + nI y + 1 = nI (48 * w + y + 1) := by
  rw [ws_ix, nI_1]
theorem ws_ix8 (d w : Nat) : (8 : Int32) * nI d + nI w = nI (8 * d + w) := by
  rw [show (8 : Int32) = nI 8 from rfl, pk_mul, nI_add]
theorem ws_ixc {w y : Nat} (h : 48 * w + y < 2 ^ 31) : ((48 : Int32) * nI w + nI y).toNatClampNeg = 48 * w + y := by
  rw [ws_ix, nI_clamp h]
theorem ws_ixc1 {w y : Nat} (h : 48 * w + y + 1 < 2 ^ 31) : ((48 : Int32) * nI w + nI y + 1).toNatClampNeg = 48 * w + y + 1 := by
  rw [ws_ix1, nI_clamp h]
theorem ws_ix8c {d w : Nat} (h : 8 * d + w < 2 ^ 31) : ((8 : Int32) * nI d + nI w).toNatClampNeg = 8 * d + w := by
  rw [ws_ix8, nI_clamp h]
theorem ws_gap {p q : Nat} (h : p < q) : nI p - 1 + nI (q - p) = nI q - 1 := by
  have e : nI q = nI p + nI (q - p) := by
    rw [nI_add]
    congr 1
    omega
  rw [e]
  grind
theorem ws_pr {q : Nat} (h : 0 < q) : nI q - 1 = nI (q - 1) := pk_sub (a := q) (b := 1) h
theorem ws_2 (a : Nat) : nI a + 2 = nI (a + 2) := nI_add a 2
theorem ws_22 (a : Nat) : nI a - 2 + 2 = nI a := by grind
theorem ws_byte : ∀ x, x < 16 → (nI x).toInt8.toInt32 = nI x := by decide +kernel
/-- an array over words: word 1 and word 6 alone -/
def ws_sp (y : Nat → Nat) (w : Nat) : Nat := if w = 1 then y 0 else if w = 6 then y 1 else 0
theorem ws_sp_t {y : Nat → Nat} {t : Nat} (ht : t < 2) : ws_sp y (5 * t + 1) = y t := by
  have h : t = 0 ∨ t = 1 := by omega
  rcases h with rfl | rfl <;> rfl
theorem ws_sp_n {y : Nat → Nat} {w : Nat} (h : ∀ t, t < 2 → w ≠ 5 * t + 1) : ws_sp y w = 0 := by
  have h0 := h 0 (by decide)
  have h1 := h 1 (by decide)
  unfold ws_sp
  rw [if_neg (by omega), if_neg (by omega)]
theorem ws_sp_sum (y : Nat → Nat) : ws_sum (ws_sp y) 8 = y 0 + y 1 := by
  show 0 + 0 + y 0 + 0 + 0 + 0 + 0 + y 1 + 0 = y 0 + y 1
  omega
theorem ws_sp_le {y : Nat → Nat} {B : Nat} (h : ∀ t, y t ≤ B) (w : Nat) : ws_sp y w ≤ B := by
  have h0 := h 0
  have h1 := h 1
  unfold ws_sp
  split
  · exact h0
  · split
    · exact h1
    · omega
theorem ws_t2 {t : Nat} (h : t < 2) : t = 0 ∨ t = 1 := by omega
end
section
/-! ===== readers of the lists ===== -/
theorem ws_2x (i : Nat) : nI (2 * i) + 2 = nI (2 * (i + 1)) := by
  rw [ws_2, show 2 * i + 2 = 2 * (i + 1) by omega]
theorem ws_back {i p : Nat} (h : p ≤ i) : nI i - (nI p - 1) = nI (i + 1 - p) := by
  rw [← pk_sub (a := i + 1) (b := p) (by omega), ← nI_1]
  grind
/-- the list of word t: e entries, behind k of them stands the document ps k - 1; below i nobody is missing -/
def ws_LS (al : Nat) (c : Nat → Nat → Nat) (t i : Nat) (a1 a2 : Nat → Int32) (e : Nat) (ps : Nat → Nat) : Prop :=
  a2 (5 * t + 1) = nI (2 * e) ∧ e ≤ ps e ∧ ps 0 = 0 ∧ ps e ≤ i ∧ (∀ k, k < e → ps k < ps (k + 1) ∧ ps (k + 1) ≤ i ∧ a1 (48 * (5 * t + 1) + 2 * k) = nI (ps (k + 1) - ps k) ∧ a1 (48 * (5 * t + 1) + 2 * k + 1) = nI (c (ps (k + 1) - 1) t) ∧ 0 < c (ps (k + 1) - 1) t ∧ ∀ d, ps k ≤ d → d + 1 < ps (k + 1) → ws_g al c t d = 0) ∧ (∀ d, ps e ≤ d → d < i → ws_g al c t d = 0)
theorem ws_LS_tail {al n : Nat} {c : Nat → Nat → Nat} {t e : Nat} {a1 a2 : Nat → Int32} {ps : Nat → Nat} (ha : al < 2 ^ n) (hL : ws_LS al c t n a1 a2 e ps) : ∀ d, ps e ≤ d → ws_g al c t d = 0 := by
  intro d hd
  by_cases h : d < n
  · exact hL.2.2.2.2.2 d hd h
  · exact ws_g0b (ws_hi ha (by omega))
theorem ws_LS_sum {al i : Nat} {c : Nat → Nat → Nat} {t e : Nat} {a1 a2 : Nat → Int32} {ps : Nat → Nat} (hL : ws_LS al c t i a1 a2 e ps) {k : Nat} (hk : k < e) : ws_sum (ws_g al c t) (ps k) + ws_b al (ps (k + 1) - 1) = ws_sum (ws_g al c t) (ps (k + 1)) := by
  obtain ⟨m1, m2, m3, m4, m5, m6⟩ := hL.2.2.2.2.1 k hk
  obtain ⟨q, hq⟩ : ∃ q, ps (k + 1) = q + 1 := ⟨ps (k + 1) - 1, by omega⟩
  rw [hq] at m1 m5 m6 ⊢
  rw [Nat.add_sub_cancel] at m5 ⊢
  rw [ws_sum_s, ws_gb m5, ws_sum_z (a := ps k) q (by omega) (fun d h1 h2 => m6 d h1 (by omega))]
theorem ws_LS_c {al al' i : Nat} {c c' : Nat → Nat → Nat} {t e : Nat} {a1 a2 : Nat → Int32} {ps : Nat → Nat} (hL : ws_LS al c t i a1 a2 e ps) (h1 : ∀ d, d < i → c' d t = c d t) (h2 : ∀ d, d < i → ws_g al c t d = 0 → ws_g al' c' t d = 0) : ws_LS al' c' t i a1 a2 e ps := by
  obtain ⟨l1, l2, l3, l4, l5, l6⟩ := hL
  refine ⟨l1, l2, l3, l4, fun k hk => ?_, fun d hd hi => h2 d hi (l6 d hd hi)⟩
  obtain ⟨m1, m2, m3, m4, m5, m6⟩ := l5 k hk
  refine ⟨m1, m2, m3, ?_, ?_, fun d hd hd2 => h2 d (by omega) (m6 d hd hd2)⟩
  · rw [h1 _ (by omega)]
    exact m4
  · rw [h1 _ (by omega)]
    exact m5
theorem ws_LS_f {al i : Nat} {c : Nat → Nat → Nat} {t e : Nat} {a1 a2 b1 b2 : Nat → Int32} {ps : Nat → Nat} (hL : ws_LS al c t i a1 a2 e ps) (hi : i ≤ 8) (h1 : ∀ j, j < 16 → b1 (48 * (5 * t + 1) + j) = a1 (48 * (5 * t + 1) + j)) (h2 : b2 (5 * t + 1) = a2 (5 * t + 1)) : ws_LS al c t i b1 b2 e ps := by
  obtain ⟨l1, l2, l3, l4, l5, l6⟩ := hL
  refine ⟨h2.trans l1, l2, l3, l4, fun k hk => ?_, l6⟩
  obtain ⟨m1, m2, m3, m4, m5, m6⟩ := l5 k hk
  exact ⟨m1, m2, (h1 (2 * k) (by omega)).trans m3, (h1 (2 * k + 1) (by omega)).trans m4, m5, m6⟩
theorem ws_LS_skip {al i : Nat} {c : Nat → Nat → Nat} {t e : Nat} {a1 a2 : Nat → Int32} {ps : Nat → Nat} (hL : ws_LS al c t i a1 a2 e ps) (h : ws_g al c t i = 0) : ws_LS al c t (i + 1) a1 a2 e ps := by
  obtain ⟨l1, l2, l3, l4, l5, l6⟩ := hL
  refine ⟨l1, l2, l3, by omega, fun k hk => ?_, fun d hd hi => ?_⟩
  · obtain ⟨m1, m2, m⟩ := l5 k hk
    exact ⟨m1, by omega, m⟩
  · by_cases e : d = i
    · rw [e]
      exact h
    · exact l6 d hd (by omega)
theorem ws_LS_app {al i : Nat} {c : Nat → Nat → Nat} {t e : Nat} {a1 a2 b1 b2 : Nat → Int32} {ps : Nat → Nat} (hL : ws_LS al c t i a1 a2 e ps) (hc : 0 < c i t) (h1 : ∀ j, j < 2 * e → b1 (48 * (5 * t + 1) + j) = a1 (48 * (5 * t + 1) + j)) (ha : b1 (48 * (5 * t + 1) + 2 * e) = nI (i + 1 - ps e)) (hb : b1 (48 * (5 * t + 1) + 2 * e + 1) = nI (c i t)) (h2 : b2 (5 * t + 1) = nI (2 * (e + 1))) : ws_LS al c t (i + 1) b1 b2 (e + 1) (fun k => if k = e + 1 then i + 1 else ps k) := by
  obtain ⟨l1, l2, l3, l4, l5, l6⟩ := hL
  have E : ∀ k, k ≤ e → (if k = e + 1 then i + 1 else ps k) = ps k := fun k hk => if_neg (by omega)
  have E1 : (if e + 1 = e + 1 then i + 1 else ps (e + 1)) = i + 1 := if_pos rfl
  refine ⟨h2, ?_, ?_, ?_, fun k hk => ?_, fun d hd hi => ?_⟩
  · dsimp only
    rw [E1]
    omega
  · exact (E 0 (by omega)).trans l3
  · dsimp only
    rw [E1]
    omega
  · dsimp only
    by_cases hke : k < e
    · rw [E k (by omega), E (k + 1) (by omega)]
      obtain ⟨m1, m2, m3, m4, m5, m6⟩ := l5 k hke
      exact ⟨m1, by omega, (h1 (2 * k) (by omega)).trans m3, (h1 (2 * k + 1) (by omega)).trans m4, m5, m6⟩
    · have hk' : k = e := by omega
      subst hk'
      rw [E k (by omega), E1, Nat.add_sub_cancel]
      exact ⟨by omega, by omega, ha, hb, hc, fun d h h' => l6 d h (by omega)⟩
  · dsimp only at hd
    rw [E1] at hd
    omega
section
variable {fA fL fI fN fF : Int32} {a1 a2 a3 a4 a5 a6 a7 a8 a9 a10 a11 a12 a13 a14 a15 : Nat → Int32}
variable {n al : Nat} {c : Nat → Nat → Nat} {t e : Nat} {ps : Nat → Nat}
theorem ws_strength {post : Int32 → Prop} {x y : Int32} {k len : Nat} (hx : x = nI k) (hy : y = nI len) (hk : k ≤ 7) (hl : len ≤ 14) (h : post (nI (ws_st k len))) : wpX_strength post () x y := by
  subst hx hy
  rcases Nat.eq_zero_or_pos k with e | e
  · subst e
    exact br_f (by decide) h
  · obtain ⟨h1, h2⟩ := ws_stN k (by omega) len (by omega) e
    refine br_t (nI_lt (a := 0) e (by omega)) ⟨by decide, h1, ?_⟩
    rw [h2]
    exact h
theorem ws_isLive {post : Int32 → Prop} {p : Nat} (hn : n ≤ 8) (ha : al < 2 ^ n) (hp : p < 8) (h1 : ws_b al p = 1 → post 1) (h0 : ws_b al p = 0 → post 0) : wpX_isLive post (nI n, nI al, fI, fN, fF, a1, a2, a3, a4, a5, a6, a7, a8, a9, a10, a11, a12, a13, a14, a15) (nI p) := by
  refine br_f (nI_pos (by omega)) (pk_le n p (fun z => h0 (ws_hi ha z)) (fun z => ?_))
  rw [ws_bit al (ws_p8 hn ha) p hp]
  rcases ws_b01 al p with e | e
  · rw [e]
    exact br_f (by decide) (h0 e)
  · rw [e]
    exact br_t rfl (h1 e)
theorem ws_liveCount {post : Int32 → Prop} (hn : n ≤ 8) (ha : al < 2 ^ n) (h : post (nI (ws_all al))) : wpX_liveCount post (nI n, nI al, fI, fN, fF, a1, a2, a3, a4, a5, a6, a7, a8, a9, a10, a11, a12, a13, a14, a15) :=
  pk_loop (σ := Int32) (fun k i s => wX_liveCount_4 post (nI n) (nI al) fI fN fF a1 a2 a3 a4 a5 a6 a7 a8 a9 a10 a11 a12 a13 a14 a15 k s (nI i)) (fun i s => s = nI (ws_sum (ws_b al) i)) n 0 0 (by omega) rfl
    (fun k s hs => pk_le n n (fun _ => by
      rw [hs, ← ws_sum_z (a := n) 8 hn (fun d h1 _ => ws_hi ha h1)]
      exact h) (fun z => absurd z (by omega)))
    (fun k i s hi hs hw => pk_le n i (fun z => absurd z (by omega)) (fun _ => nm_r (e' := nI (ws_sum (ws_b al) (i + 1))) (by rw [hs, ws_bit al (ws_p8 hn ha) i (by omega), nI_add, ws_sum_s]) (nm_r (nI_1 i) (hw _ rfl))))
theorem ws_spreadOf {post : Int32 → Prop} (hn : n ≤ 8) (ha : al < 2 ^ n) (ht : t < 2) (hL : ws_LS al c t n a1 a2 e ps) (h : post (nI (ws_spr al c t))) : wpX_spreadOf post (fA, nI al, fI, fN, fF, a1, a2, a3, a4, a5, a6, a7, a8, a9, a10, a11, a12, a13, a14, a15) (nI (5 * t + 1)) := by
  have hT := ws_LS_tail ha hL
  have hS := fun k hk => ws_LS_sum hL (k := k) hk
  obtain ⟨l1, l2, l3, l4, l5, l6⟩ := hL
  refine pk_loop (σ := Int32 × Int32) (fun k i s => wX_spreadOf_7 post (nI (5 * t + 1)) fA (nI al) fI fN fF a1 a2 a3 a4 a5 a6 a7 a8 a9 a10 a11 a12 a13 a14 a15 k s.1 s.2 (nI (2 * i))) (fun i s => s.1 = nI (ps i) - 1 ∧ s.2 = nI (ws_sum (ws_g al c t) (ps i))) e 0 (-1, 0) (by omega) ⟨by rw [l3]; rfl, by rw [l3]; rfl⟩ ?_ ?_
  · rintro k ⟨x2, x3⟩ ⟨s1, s2⟩
    dsimp only at s1 s2 ⊢
    refine ⟨pk_in (5 * t + 1) 8 (by omega), pk_le (2 * e) (2 * e) (fun _ => ?_) (fun z => absurd z (by omega)) (by rw [nI_clamp (by omega)]; exact l1)⟩
    rw [s2, ← ws_sum_z (a := ps e) 8 (by omega) (fun d h1 _ => hT d h1)]
    exact h
  · rintro k i ⟨x2, x3⟩ hi ⟨s1, s2⟩ hw
    dsimp only at s1 s2 ⊢
    obtain ⟨m1, m2, m3, m4, m5, m6⟩ := l5 i hi
    have E1 : nI (ps i) - 1 + a1 (48 * (5 * t + 1) + 2 * i) = nI (ps (i + 1)) - 1 := by
      rw [m3]
      exact ws_gap m1
    refine ⟨pk_in (5 * t + 1) 8 (by omega), pk_le (2 * e) (2 * i) (fun z => absurd z (by omega)) (fun _ => ⟨pk_in (48 * (5 * t + 1) + 2 * i) 384 (by omega) (ws_ix _ _), nm_r (e' := nI (ps (i + 1) - 1)) (by rw [ws_ixc (by omega), s1, E1]; exact ws_pr (by omega)) (nm_r (e' := nI (ws_sum (ws_g al c t) (ps (i + 1)))) ?_ (nm_r (ws_2x i) (hw (nI (ps (i + 1) - 1), nI (ws_sum (ws_g al c t) (ps (i + 1)))) ⟨(ws_pr (by omega)).symm, rfl⟩)))⟩) (by rw [nI_clamp (by omega)]; exact l1)⟩
    rw [s2, ws_bit al (ws_p8 hn ha) _ (by omega), nI_add, hS i hi]
theorem ws_greatest {post : Int32 → Prop} (hn : n ≤ 8) (ht : t < 2) (hc : ∀ d t, c d t ≤ 7) (h4 : ∀ d, d < n → a4 d = nI (c d 0 + c d 1)) (hL : ws_LS al c t n a1 a2 e ps) (h : ∀ m, m ≤ 256 → post (nI m)) : wpX_greatest post (fA, fL, fI, fN, fF, a1, a2, a3, a4, a5, a6, a7, a8, a9, a10, a11, a12, a13, a14, a15) (nI (5 * t + 1)) := by
  obtain ⟨l1, l2, l3, l4, l5, l6⟩ := hL
  refine pk_loop (σ := Int32 × Int32) (fun k i s => wX_greatest_7 post (nI (5 * t + 1)) fA fL fI fN fF a1 a2 a3 a4 a5 a6 a7 a8 a9 a10 a11 a12 a13 a14 a15 k s.1 s.2 (nI (2 * i))) (fun i s => s.1 = nI (ps i) - 1 ∧ ∃ m, m ≤ 256 ∧ s.2 = nI m) e 0 (-1, 0) (by omega) ⟨by rw [l3]; rfl, 0, by omega, rfl⟩ ?_ ?_
  · rintro k ⟨x2, x3⟩ ⟨s1, m, hm, s2⟩
    dsimp only at s1 s2 ⊢
    refine ⟨pk_in (5 * t + 1) 8 (by omega), pk_le (2 * e) (2 * e) (fun _ => ?_) (fun z => absurd z (by omega)) (by rw [nI_clamp (by omega)]; exact l1)⟩
    rw [s2]
    exact h m hm
  · rintro k i ⟨x2, x3⟩ hi ⟨s1, m, hm, s2⟩ hw
    dsimp only at s1 s2 ⊢
    obtain ⟨m1, m2, m3, m4, m5, m6⟩ := l5 i hi
    have E1 : nI (ps i) - 1 + a1 (48 * (5 * t + 1) + 2 * i) = nI (ps (i + 1)) - 1 := by
      rw [m3]
      exact ws_gap m1
    have c0 := hc (ps (i + 1) - 1) 0
    have c1 := hc (ps (i + 1) - 1) 1
    have E2 := ws_pr (q := ps (i + 1)) (by omega)
    refine ⟨pk_in (5 * t + 1) 8 (by omega), pk_le (2 * e) (2 * i) (fun z => absurd z (by omega)) (fun _ => ⟨pk_in (48 * (5 * t + 1) + 2 * i) 384 (by omega) (ws_ix _ _), nm_r (e' := nI (ps (i + 1) - 1)) (by rw [ws_ixc (by omega), s1, E1]; exact E2) ⟨pk_in (48 * (5 * t + 1) + 2 * i + 1) 384 (by omega) (ws_ix1 _ _), pk_in (ps (i + 1) - 1) 24 (by omega), ?_⟩⟩) (by rw [nI_clamp (by omega)]; exact l1)⟩
    refine ws_strength (k := c (ps (i + 1) - 1) t) (len := c (ps (i + 1) - 1) 0 + c (ps (i + 1) - 1) 1) (by rw [ws_ixc1 (by omega)]; exact m4) (by rw [nI_clamp (by omega)]; exact h4 _ (by omega)) (hc _ _) (by omega) ?_
    exact br_c (fun _ => nm_r (ws_2x i) (hw (nI (ps (i + 1) - 1), x3) ⟨E2.symm, m, hm, s2⟩)) (fun _ => nm_r (ws_2x i) (hw (nI (ps (i + 1) - 1), _) ⟨E2.symm, _, ws_st_le _ _, rfl⟩))
theorem ws_lastOf {post : Int32 → Prop} {i : Nat} (hi8 : i ≤ 8) (ht : t < 2) (hL : ws_LS al c t i a1 a2 e ps) (h : post (nI (ps e) - 1)) : wpX_lastOf post (fA, fL, fI, fN, fF, a1, a2, a3, a4, a5, a6, a7, a8, a9, a10, a11, a12, a13, a14, a15) (nI (5 * t + 1)) := by
  obtain ⟨l1, l2, l3, l4, l5, l6⟩ := hL
  refine pk_loop (σ := Int32) (fun k i s => wX_lastOf_4 post (nI (5 * t + 1)) fA fL fI fN fF a1 a2 a3 a4 a5 a6 a7 a8 a9 a10 a11 a12 a13 a14 a15 k s (nI (2 * i))) (fun i s => s = nI (ps i) - 1) e 0 (-1) (by omega) (by rw [l3]; rfl) ?_ ?_
  · intro k s s1
    refine ⟨pk_in (5 * t + 1) 8 (by omega), pk_le (2 * e) (2 * e) (fun _ => ?_) (fun z => absurd z (by omega)) (by rw [nI_clamp (by omega)]; exact l1)⟩
    rw [s1]
    exact h
  · intro k i s hi s1 hw
    obtain ⟨m1, m2, m3, m4, m5, m6⟩ := l5 i hi
    have E1 : nI (ps i) - 1 + a1 (48 * (5 * t + 1) + 2 * i) = nI (ps (i + 1)) - 1 := by
      rw [m3]
      exact ws_gap m1
    exact ⟨pk_in (5 * t + 1) 8 (by omega), pk_le (2 * e) (2 * i) (fun z => absurd z (by omega)) (fun _ => ⟨pk_in (48 * (5 * t + 1) + 2 * i) 384 (by omega) (ws_ix _ _), nm_r (e' := nI (ps (i + 1)) - 1) (by rw [ws_ixc (by omega), s1, E1]) (nm_r (ws_2x i) (hw _ rfl))⟩) (by rw [nI_clamp (by omega)]; exact l1)⟩
theorem ws_index {post : St1 → Prop} {i : Nat} (hi : i < 8) (hc : ∀ d t, c d t ≤ 7) (h3 : ∀ w, w < 8 → a3 (8 * i + w) = nI (ws_sp (c i) w)) (hL : ∀ t, t < 2 → ∃ e ps, ws_LS al c t i a1 a2 e ps) (H : ∀ b1 b2, (∀ t, t < 2 → ∃ e ps, ws_LS al c t (i + 1) b1 b2 e ps) → post (fA, fL, fI, fN, fF, b1, b2, a3, a4, a5, a6, a7, a8, a9, a10, a11, a12, a13, a14, a15)) : wpX_index post (fA, fL, fI, fN, fF, a1, a2, a3, a4, a5, a6, a7, a8, a9, a10, a11, a12, a13, a14, a15) (nI i) := by
  refine pk_loop (σ := (Nat → Int32) × (Nat → Int32)) (fun k w s => wX_index_2 post (nI i) fA fL fI fN fF k (nI w) s.1 s.2 a3 a4 a5 a6 a7 a8 a9 a10 a11 a12 a13 a14 a15) (fun w s => ∀ t, t < 2 → ∃ e ps, ws_LS al c t (if 5 * t + 1 < w then i + 1 else i) s.1 s.2 e ps) 8 0 (a1, a2) (by omega) (fun t ht => hL t ht) ?_ ?_
  · rintro k ⟨b1, b2⟩ hs
    refine pk_le 8 8 (fun _ => H b1 b2 (fun t ht => ?_)) (fun z => absurd z (by omega))
    have := hs t ht
    rwa [if_pos (by omega)] at this
  · rintro k w ⟨b1, b2⟩ hw hs ih
    dsimp only at hs ⊢
    refine pk_le 8 w (fun z => absurd z (by omega)) (fun _ => ⟨pk_in (8 * i + w) 192 (by omega) (ws_ix8 _ _), ?_⟩)
    rw [ws_ix8c (by omega), h3 w hw]
    by_cases hw' : ∃ t, t < 2 ∧ w = 5 * t + 1
    · obtain ⟨t, ht, rfl⟩ := hw'
      rw [ws_sp_t ht]
      have hct := hc i t
      obtain ⟨e, ps, hLt⟩ := hs t ht
      rw [if_neg (by omega)] at hLt
      have hO : ∀ s, s < 2 → s ≠ t → (if 5 * s + 1 < 5 * t + 1 + 1 then i + 1 else i) = (if 5 * s + 1 < 5 * t + 1 then i + 1 else i) := by
        intro s hs hst
        by_cases z : 5 * s + 1 < 5 * t + 1
        · rw [if_pos z, if_pos (by omega)]
        · rw [if_neg z, if_neg (by omega)]
      refine pk_le (c i t) 0 (fun z => nm_r (nI_1 _) (ih (b1, b2) (fun s hs2 => ?_))) (fun z => ?_)
      · dsimp only
        by_cases hst : s = t
        · subst hst
          rw [if_pos (by omega)]
          exact ⟨e, ps, ws_LS_skip hLt (ws_g0c (by omega))⟩
        · rw [hO s hs2 hst]
          exact hs s hs2
      · have hle := hLt.2.2.2.1
        have hle2 := hLt.2.1
        refine ⟨pk_in (5 * t + 1) 8 (by omega), nm_r (e' := nI (48 * (5 * t + 1) + 2 * e)) (by rw [nI_clamp (by omega), hLt.1, ws_ix]) (ws_lastOf (i := i) (by omega) ht hLt ?_)⟩
        have hb : (nI i - (nI (ps e) - 1)).toInt8.toInt32 = nI (i + 1 - ps e) := by
          rw [ws_back hle, ws_byte _ (by omega)]
        refine ⟨pk_in (48 * (5 * t + 1) + 2 * e) 384 (by omega), nm_r (e' := upd b1 (48 * (5 * t + 1) + 2 * e) (nI (i + 1 - ps e))) (by rw [nI_clamp (by omega), hb]) ⟨pk_in (8 * i + (5 * t + 1)) 192 (by omega) (ws_ix8 _ _), pk_in (48 * (5 * t + 1) + 2 * e + 1) 384 (by omega) (nI_1 _), nm_r (e' := upd (upd b1 (48 * (5 * t + 1) + 2 * e) (nI (i + 1 - ps e))) (48 * (5 * t + 1) + 2 * e + 1) (nI (c i t))) (by rw [nI_1, nI_clamp (by omega), ws_byte _ (by omega)]) ⟨pk_in (5 * t + 1) 8 (by omega), pk_in (5 * t + 1) 8 (by omega), nm_r (e' := upd b2 (5 * t + 1) (nI (2 * (e + 1)))) (by rw [nI_clamp (by omega), hLt.1, ws_2x]) (nm_r (nI_1 _) (ih (_, _) (fun s hs2 => ?_)))⟩⟩⟩
        dsimp only
        by_cases hst : s = t
        · subst hst
          rw [if_pos (by omega)]
          refine ⟨e + 1, _, ws_LS_app hLt (by omega) (fun j hj => ?_) ?_ ?_ pk_us⟩
          · exact (pk_un (by omega)).trans (pk_un (by omega))
          · exact (pk_un (by omega)).trans pk_us
          · exact pk_us
        · rw [hO s hs2 hst]
          obtain ⟨e', ps', hs'⟩ := hs s hs2
          refine ⟨e', ps', ws_LS_f hs' (by split <;> omega) (fun j hj => ?_) (pk_un (by omega))⟩
          exact (pk_un (by omega)).trans (pk_un (by omega))
    · have hz : ∀ t, t < 2 → w ≠ 5 * t + 1 := fun t ht e => hw' ⟨t, ht, e⟩
      rw [ws_sp_n hz]
      refine br_t (by decide) (nm_r (nI_1 _) (ih (b1, b2) (fun s hs2 => ?_)))
      dsimp only
      have := hs s hs2
      have hne := hz s hs2
      by_cases z : 5 * s + 1 < w
      · rw [if_pos (by omega)]
        rwa [if_pos z] at this
      · rw [if_neg (by omega)]
        rwa [if_neg z] at this
end
end
section
/-! ===== items: which words are asked for ===== -/
def ws_I (m : Nat) (q b : Nat → Nat) (a6 a7 : Nat → Int32) : Prop :=
  m ≤ 2 ∧ (∀ k, k < m → q k < 2 ∧ a6 k = nI (5 * q k + 1) ∧ a7 k = nI (b (q k)) ∧ b (q k) < 20 ∧ b (q k) ≠ 10) ∧ (∀ t, t < 2 → (∀ k, k < m → q k ≠ t) → b t = 31) ∧ (∀ j k, j < m → k < m → q j = q k → j = k)
section
variable {fA fL fI fN fF : Int32} {a1 a2 a3 a4 a5 a6 a7 a8 a9 a10 a11 a12 a13 a14 a15 : Nat → Int32}
variable {n al m : Nat} {c : Nat → Nat → Nat} {q b : Nat → Nat} {t : Nat}
theorem ws_draftLength {post : Int32 → Prop} {y : Nat → Nat} (hy : ∀ t, y t ≤ 7) (h5 : ∀ w, w < 8 → a5 w = nI (ws_sp y w)) (h : post (nI (y 0 + y 1))) : wpX_draftLength post (fA, fL, fI, fN, fF, a1, a2, a3, a4, a5, a6, a7, a8, a9, a10, a11, a12, a13, a14, a15) :=
  pk_loop (σ := Int32) (fun k i s => wX_draftLength_4 post fA fL fI fN fF a1 a2 a3 a4 a5 a6 a7 a8 a9 a10 a11 a12 a13 a14 a15 k s (nI i)) (fun i s => s = nI (ws_sum (ws_sp y) i)) 8 0 0 (by omega) rfl
    (fun k s hs => pk_le 8 8 (fun _ => by
      rw [hs, ws_sp_sum]
      exact h) (fun z => absurd z (by omega)))
    (fun k i s hi hs hw => pk_le 8 i (fun z => absurd z (by omega)) (fun _ => ⟨pk_in i 8 hi, nm_r (e' := nI (ws_sum (ws_sp y) (i + 1))) (by rw [hs, nI_clamp (by omega), h5 i hi, nI_add, ws_sum_s]) (nm_r (nI_1 i) (hw _ rfl))⟩))
theorem ws_place {post : Int32 → Prop} (hI : ws_I m q b a6 a7) (ht : t < 2) (h1 : ∀ k, k < m → q k = t → post (nI k)) (h0 : (∀ k, k < m → q k ≠ t) → post (-1)) : wpX_place post (fA, fL, nI m, fN, fF, a1, a2, a3, a4, a5, a6, a7, a8, a9, a10, a11, a12, a13, a14, a15) (nI (5 * t + 1)) := by
  obtain ⟨i1, i2, i3, i4⟩ := hI
  refine pk_loop (σ := Unit) (fun k i _ => wX_place_2 post (nI (5 * t + 1)) fA fL (nI m) fN fF a1 a2 a3 a4 a5 a6 a7 a8 a9 a10 a11 a12 a13 a14 a15 k (nI i)) (fun i _ => ∀ k, k < i → q k ≠ t) m 0 () (by omega) (fun k hk => absurd hk (by omega)) ?_ ?_
  · intro k _ hs
    exact pk_le m m (fun _ => h0 hs) (fun z => absurd z (by omega))
  · intro k i _ hi hs hw
    obtain ⟨j1, j2, j3, j4, j5⟩ := i2 i hi
    refine pk_le m i (fun z => absurd z (by omega)) (fun _ => ⟨pk_in i 5 (by omega), pk_eq (5 * q i + 1) (5 * t + 1) (fun z => h1 i hi (by omega)) (fun z => nm_r (nI_1 i) (hw () (fun k hk => ?_))) (by rw [nI_clamp (by omega)]; exact j2)⟩)
    by_cases e : k = i
    · subst e
      omega
    · exact hs k (by omega)
theorem ws_nb : narrow .boolean (.int (nI 0)) = .int (nI 0) ∧ narrow .boolean (.int (nI 1)) = .int (nI 1) := ⟨rfl, rfl⟩
theorem ws_nbN {x : Nat} (h : x ≤ 1) : narrow .boolean (.int (nI x)) = .int (nI x) := by
  have e : x = 0 ∨ x = 1 := by omega
  rcases e with rfl | rfl
  · exact ws_nb.1
  · exact ws_nb.2
theorem ws_mt_end {d : Nat} (hI : ws_I m q b a6 a7) (h : ∀ k, k < m → ¬ ws_bad c b d (q k)) : (∀ t, t < 2 → ¬ ws_bad c b d t) := by
  intro t ht
  by_cases e : ∃ k, k < m ∧ q k = t
  · obtain ⟨k, hk, rfl⟩ := e
    exact h k hk
  · have := hI.2.2.1 t ht (fun k hk z => e ⟨k, hk, z⟩)
    unfold ws_bad
    omega
theorem ws_so_q {d : Nat} (hI : ws_I m q b a6 a7) (ht : t < 2) (h : ws_so c b d t) : ∃ k, k < m ∧ q k = t := by
  by_cases e : ∃ k, k < m ∧ q k = t
  · exact e
  · have := hI.2.2.1 t ht (fun k hk z => e ⟨k, hk, z⟩)
    unfold ws_so at h
    omega
theorem ws_matches {post : Int32 → Prop} {d : Nat} (hI : ws_I m q b a6 a7) (hd : d < 8) (hc : ∀ d t, c d t ≤ 7) (h3 : ∀ w, w < 8 → a3 (8 * d + w) = nI (ws_sp (c d) w)) (h1 : ws_mt c b d → post 1) (h0 : ¬ ws_mt c b d → post 0) : wpX_matches post (fA, fL, nI m, fN, fF, a1, a2, a3, a4, a5, a6, a7, a8, a9, a10, a11, a12, a13, a14, a15) (nI d) := by
  have hI' := hI
  obtain ⟨i1, i2, i3, i4⟩ := hI
  refine pk_loop (σ := Nat) (fun k i s => wX_matches_4 post (nI d) fA fL (nI m) fN fF a1 a2 a3 a4 a5 a6 a7 a8 a9 a10 a11 a12 a13 a14 a15 k (nI s) (nI i)) (fun i s => s ≤ 1 ∧ (∀ k, k < i → ¬ ws_bad c b d (q k)) ∧ (s = 1 ↔ ∃ k, k < i ∧ ws_so c b d (q k))) m 0 0 (by omega) ⟨by omega, fun k hk => absurd hk (by omega), ⟨fun z => absurd z (by omega), fun ⟨k, hk, _⟩ => absurd hk (by omega)⟩⟩ ?_ ?_
  · rintro k s ⟨s1, s2, s3⟩
    refine pk_le m m (fun _ => ⟨ws_nbN s1, ?_⟩) (fun z => absurd z (by omega))
    have hb := ws_mt_end hI' s2
    by_cases e : s = 1
    · subst e
      obtain ⟨k, hk, hso⟩ := s3.mp rfl
      exact h1 ⟨hb, q k, (i2 k hk).1, hso⟩
    · have e0 : s = 0 := by omega
      subst e0
      refine h0 (fun z => ?_)
      obtain ⟨_, t, ht, hso⟩ := z
      obtain ⟨k, hk, rfl⟩ := ws_so_q hI' ht hso
      exact e (s3.mpr ⟨k, hk, hso⟩)
  · rintro k i s hi ⟨s1, s2, s3⟩ hw
    obtain ⟨j1, j2, j3, j4, j5⟩ := i2 i hi
    have hcd := hc d (q i)
    have e6 : a6 (nI i).toNatClampNeg = nI (5 * q i + 1) := by
      rw [nI_clamp (by omega)]
      exact j2
    have e7 : a7 (nI i).toNatClampNeg = nI (b (q i)) := by
      rw [nI_clamp (by omega)]
      exact j3
    have e3 : a3 (8 * nI d + nI (5 * q i + 1)).toNatClampNeg = nI (c d (q i)) := by
      rw [ws_ix8c (by omega), h3 _ (by omega), ws_sp_t j1]
    have hin : vp_in (nI i) 5 := pk_in i 5 (by omega)
    -- the two ways on
    have nx : ∀ s', s' ≤ 1 → ¬ ws_bad c b d (q i) → (s' = 1 ↔ (s = 1 ∨ ws_so c b d (q i))) → wX_matches_4 post (nI d) fA fL (nI m) fN fF a1 a2 a3 a4 a5 a6 a7 a8 a9 a10 a11 a12 a13 a14 a15 k (nI s') (nI i + 1) := by
      intro s' hs' hnb hiff
      rw [nI_1]
      refine hw s' ⟨hs', fun k hk => ?_, hiff.trans ⟨fun z => ?_, fun z => ?_⟩⟩
      · by_cases e : k = i
        · subst e
          exact hnb
        · exact s2 k (by omega)
      · rcases z with z | z
        · obtain ⟨k, hk, h⟩ := s3.mp z
          exact ⟨k, by omega, h⟩
        · exact ⟨i, by omega, z⟩
      · obtain ⟨k, hk, h⟩ := z
        by_cases e : k = i
        · subst e
          exact Or.inr h
        · exact Or.inl (s3.mpr ⟨k, by omega, h⟩)
    have no : ws_bad c b d (q i) → post 0 := fun z => h0 (fun w => w.1 _ j1 z)
    have g72 : ∀ x4 : Nat, x4 ≤ 1 → (x4 = 1 ↔ 0 < c d (q i)) → ¬ ws_bad c b d (q i) → wX_matches_72 post (wX_matches_4 post (nI d) fA fL (nI m) fN fF a1 a2 a3 a4 a5 a6 a7 a8 a9 a10 a11 a12 a13 a14 a15 k) (nI d) (nI s) (nI i) (nI x4) fA fL (nI m) fN fF a1 a2 a3 a4 a5 a6 a7 a8 a9 a10 a11 a12 a13 a14 a15 := by
      intro x4 h4 h4i hnb
      refine pk_eq s 0 (fun z => ⟨hin, ?_⟩) (fun z => nm_e (nx 1 (by omega) hnb ⟨fun _ => Or.inl (by omega), fun _ => rfl⟩))
      rw [e7]
      refine pk_le (b (q i)) 0 (fun z2 => nm_e (nx 0 (by omega) hnb ⟨fun w => absurd w (by omega), fun w => ?_⟩)) (fun z2 => ?_)
      · unfold ws_so at w
        omega
      · refine pk_eq x4 0 (fun z3 => nm_e (nx 0 (by omega) hnb ⟨fun w => absurd w (by omega), fun w => ?_⟩)) (fun z3 => nm_e (nx 1 (by omega) hnb ⟨fun _ => Or.inr ⟨z2, j4, h4i.mp (by omega)⟩, fun _ => rfl⟩))
        unfold ws_so at w
        omega
    have g54 : ∀ x4 : Nat, x4 ≤ 1 → (x4 = 1 ↔ 0 < c d (q i)) → ¬ (b (q i) = 0 ∧ 0 < c d (q i)) → wX_matches_54 post (wX_matches_4 post (nI d) fA fL (nI m) fN fF a1 a2 a3 a4 a5 a6 a7 a8 a9 a10 a11 a12 a13 a14 a15 k) (nI d) (nI s) (nI i) (nI x4) fA fL (nI m) fN fF a1 a2 a3 a4 a5 a6 a7 a8 a9 a10 a11 a12 a13 a14 a15 := by
      intro x4 h4 h4i hnb
      refine ⟨hin, ?_⟩
      rw [e7]
      refine pk_le (b (q i)) 10 (fun z => g72 x4 h4 h4i (fun w => ?_)) (fun z => pk_eq x4 0 (fun z2 => no (Or.inr ⟨z, j4, by omega⟩)) (fun z2 => g72 x4 h4 h4i (fun w => ?_)))
      · unfold ws_bad at w
        omega
      · unfold ws_bad at w
        omega
    have g36 : ∀ x4 : Nat, x4 ≤ 1 → (x4 = 1 ↔ 0 < c d (q i)) → wX_matches_36 post (wX_matches_4 post (nI d) fA fL (nI m) fN fF a1 a2 a3 a4 a5 a6 a7 a8 a9 a10 a11 a12 a13 a14 a15 k) (nI d) (nI s) (nI i) (nI x4) fA fL (nI m) fN fF a1 a2 a3 a4 a5 a6 a7 a8 a9 a10 a11 a12 a13 a14 a15 := by
      intro x4 h4 h4i
      refine ⟨hin, ?_⟩
      rw [e7]
      exact pk_eq (b (q i)) 0 (fun z => pk_eq x4 0 (fun z2 => g54 x4 h4 h4i (by omega)) (fun z2 => no (Or.inl ⟨z, h4i.mp (by omega)⟩))) (fun z => g54 x4 h4 h4i (by omega))
    refine pk_le m i (fun z => absurd z (by omega)) (fun _ => ⟨hin, ?_⟩)
    rw [e6, e3]
    exact ⟨pk_in (8 * d + (5 * q i + 1)) 192 (by omega) (ws_ix8 _ _), pk_le (c d (q i)) 0 (fun z => g36 0 (by omega) (by omega)) (fun z => g36 1 (by omega) (by omega))⟩
theorem ws_matching {post : Int32 → Prop} (hn : n ≤ 8) (ha : al < 2 ^ n) (hI : ws_I m q b a6 a7) (hc : ∀ d t, c d t ≤ 7) (h3 : ∀ d, d < n → ∀ w, w < 8 → a3 (8 * d + w) = nI (ws_sp (c d) w)) (h : post (nI (ws_cnt al c b 8))) : wpX_matching post (nI n, nI al, nI m, fN, fF, a1, a2, a3, a4, a5, a6, a7, a8, a9, a10, a11, a12, a13, a14, a15) := by
  refine pk_loop (σ := Int32) (fun k i s => wX_matching_4 post (nI n) (nI al) (nI m) fN fF a1 a2 a3 a4 a5 a6 a7 a8 a9 a10 a11 a12 a13 a14 a15 k s (nI i)) (fun i s => s = nI (ws_cnt al c b i)) n 0 0 (by omega) rfl ?_ ?_
  · intro k s hs
    refine pk_le n n (fun _ => ?_) (fun z => absurd z (by omega))
    have e : ws_cnt al c b 8 = ws_cnt al c b n := ws_sum_z 8 hn (fun d h1 _ => ws_in0 (fun z => by rw [ws_hi ha h1] at z; exact absurd z.1 (by decide)))
    rw [hs, ← e]
    exact h
  · intro k i s hi hs hw
    have nx : ∀ x : Nat, x = ws_in al c b i → wX_matching_4 post (nI n) (nI al) (nI m) fN fF a1 a2 a3 a4 a5 a6 a7 a8 a9 a10 a11 a12 a13 a14 a15 k (s + nI x) (nI i + 1) := by
      intro x hx
      rw [nI_1, hs, nI_add, hx]
      exact hw _ rfl
    refine pk_le n i (fun z => absurd z (by omega)) (fun _ => ws_isLive hn ha (by omega) (fun z => ?_) (fun z => ?_))
    · refine br_f (by decide) (ws_matches hI (by omega) hc (h3 i hi) (fun w => br_f (by decide) (nm_e (nm_e (nx 1 (ws_in1 z w).symm)))) (fun w => br_t rfl (nm_e (nm_e (nx 0 (ws_in0 (fun u => w u.2)).symm)))))
    · exact br_t rfl (nm_e (nm_e (nx 0 (ws_in0 (fun u => by omega)).symm)))
end
end
section
/-! ===== lanes: a cursor a wanted word ===== -/
theorem ws_nm : ∀ p, p < 9 → ¬ nI p - 1 = 1000 := by decide +kernel
theorem ws_neg {f : Nat} (h : f < 2 ^ 31) : nI 0 - 1 < nI f := by
  rw [Int32.lt_iff_toInt_lt, nI_toInt h]
  have e : (nI 0 - 1).toInt = -1 := by decide
  rw [e]
  omega
theorem ws_cu (k : Nat) : nI (2 * (k + 1)) - 2 = nI (2 * k) := by
  have h := pk_sub (a := 2 * (k + 1)) (b := 2) (by omega)
  rw [show 2 * (k + 1) - 2 = 2 * k by omega] at h
  exact h
/-- a cursor: at the first live document of its list from f on, y; 1000 if there is none -/
def ws_PO (al : Nat) (c : Nat → Nat → Nat) (t e : Nat) (ps : Nat → Nat) (f : Nat) (x8 x9 x10 : Int32) (y : Nat) : Prop :=
  x9 = nI y ∧ ((y = 1000 ∧ ∀ d, f ≤ d → d < 8 → ws_g al c t d = 0) ∨ (f ≤ y ∧ y < 8 ∧ ws_g al c t y = 1 ∧ x10 = nI (c y t) ∧ (∀ d, f ≤ d → d < y → ws_g al c t d = 0) ∧ ∃ k, k < e ∧ x8 = nI (2 * k) ∧ ps (k + 1) = y + 1))
section
variable {fA fL fI fN fF : Int32} {a1 a2 a3 a4 a5 a6 a7 a8 a9 a10 a11 a12 a13 a14 a15 : Nat → Int32}
variable {n al m : Nat} {c : Nat → Nat → Nat} {q b : Nat → Nat} {t e : Nat} {ps : Nat → Nat}
theorem ws_m42 {post : St1 → Prop} {J : (Nat → Int32) → (Nat → Int32) → (Nat → Int32) → (Nat → Int32) → (Nat → Int32) → (Nat → Int32) → (Nat → Int32) → (Nat → Int32) → (Nat → Int32) → (Nat → Int32) → (Nat → Int32) → (Nat → Int32) → (Nat → Int32) → (Nat → Int32) → (Nat → Int32) → Prop} {x2 : Int32} {j w i : Nat} (hj : j < 5) (hw : w < 7) (he : e ≤ 8) (hie : i ≤ e) (h8 : a8 j = nI (2 * i) - 2) (h2 : a2 w = nI (2 * e))
    (H1 : i < e → J a1 a2 a3 a4 a5 a6 a7 (upd a8 j (nI (2 * i))) (upd a9 j (a9 j + a1 (48 * w + 2 * i))) (upd a10 j (a1 (48 * w + 2 * i + 1))) a11 a12 a13 a14 a15)
    (H0 : i = e → J a1 a2 a3 a4 a5 a6 a7 (upd a8 j (nI (2 * i))) (upd a9 j (nI 1000)) a10 a11 a12 a13 a14 a15) : wX_moveTo_42 post J (nI j) x2 (nI w) fA fL fI fN fF a1 a2 a3 a4 a5 a6 a7 a8 a9 a10 a11 a12 a13 a14 a15 := by
  have hin : vp_in (nI j) 5 := pk_in j 5 hj
  have cj : (nI j).toNatClampNeg = j := nI_clamp (by omega)
  have cw : (nI w).toNatClampNeg = w := nI_clamp (by omega)
  refine ⟨hin, hin, nm_r (e' := upd a8 j (nI (2 * i))) (by rw [cj, h8, ws_22]) ?_⟩
  rw [cj, cw, pk_us, h2]
  refine ⟨hin, pk_in w 8 (by omega), pk_lt (2 * i) (2 * e) (fun z => ?_) (fun z => ⟨hin, nm_e (H0 (by omega))⟩)⟩
  refine ⟨hin, hin, pk_in (48 * w + 2 * i) 384 (by omega) (ws_ix _ _), hin, nm_r (e' := upd a9 j (a9 j + a1 (48 * w + 2 * i))) (by rw [ws_ixc (by omega)]) ⟨hin, pk_in (48 * w + 2 * i + 1) 384 (by omega) (ws_ix1 _ _), hin, nm_r (e' := upd a10 j (a1 (48 * w + 2 * i + 1))) (by rw [ws_ixc1 (by omega)]) (H1 (by omega))⟩⟩
theorem ws_moveTo {post : St1 → Prop} {j f : Nat} (hn : n ≤ 8) (ha : al < 2 ^ n) (ht : t < 2) (hj : j < 5) (hf : f ≤ 8) (hL : ws_LS al c t n a1 a2 e ps) (h13 : a13 j = nI (5 * t + 1))
    (h0 : (a8 j = -2 ∧ a9 j = -1) ∨ ∃ f0 y, f0 ≤ f ∧ ws_PO al c t e ps f0 (a8 j) (a9 j) (a10 j) y)
    (H : ∀ b8 b9 b10 y, (∀ l, l ≠ j → b8 l = a8 l ∧ b9 l = a9 l ∧ b10 l = a10 l) → ws_PO al c t e ps f (b8 j) (b9 j) (b10 j) y → post (nI n, nI al, fI, fN, fF, a1, a2, a3, a4, a5, a6, a7, b8, b9, b10, a11, a12, a13, a14, a15)) : wpX_moveTo post (nI n, nI al, fI, fN, fF, a1, a2, a3, a4, a5, a6, a7, a8, a9, a10, a11, a12, a13, a14, a15) (nI j) (nI f) := by
  have hT := ws_LS_tail ha hL
  obtain ⟨l1, l2, l3, l4, l5, l6⟩ := hL
  have cj : (nI j).toNatClampNeg = j := nI_clamp (by omega)
  have hin : vp_in (nI j) 5 := pk_in j 5 hj
  refine ⟨hin, nm_r (e' := nI (5 * t + 1)) (by rw [cj]; exact h13) ?_⟩
  have st : ∃ i0, i0 ≤ e + 1 ∧ ((i0 = e + 1 ∧ a9 j = nI 1000 ∧ ∀ d, f ≤ d → d < 8 → ws_g al c t d = 0) ∨ (i0 ≤ e ∧ a8 j = nI (2 * i0) - 2 ∧ a9 j = nI (ps i0) - 1 ∧ (0 < i0 → a10 j = nI (c (ps i0 - 1) t) ∧ 0 < c (ps i0 - 1) t) ∧ ∀ d, f ≤ d → d + 1 < ps i0 → ws_g al c t d = 0)) := by
    rcases h0 with ⟨h8, h9⟩ | ⟨f0, y, hf0, h9, hy⟩
    · refine ⟨0, by omega, Or.inr ⟨by omega, h8, ?_, fun z => absurd z (by omega), fun d _ z => ?_⟩⟩
      · rw [l3]
        exact h9
      · rw [l3] at z
        omega
    · rcases hy with ⟨rfl, hy⟩ | ⟨y1, y2, y3, y4, y5, k, hk, h8, hk2⟩
      · exact ⟨e + 1, by omega, Or.inl ⟨rfl, h9, fun d hd hd8 => hy d (by omega) hd8⟩⟩
      · refine ⟨k + 1, by omega, Or.inr ⟨by omega, ?_, ?_, fun _ => ?_, fun d hd hd2 => y5 d (by omega) (by omega)⟩⟩
        · rw [ws_cu]
          exact h8
        · rw [hk2, ws_pr (by omega), Nat.add_sub_cancel]
          exact h9
        · rw [hk2, Nat.add_sub_cancel]
          exact ⟨y4, (ws_gI y3).2⟩
  obtain ⟨i0, hi0, st⟩ := st
  refine pk_loop (σ := (Nat → Int32) × (Nat → Int32) × (Nat → Int32)) (fun k _ s => wX_moveTo_7 post (nI j) (nI f) (nI (5 * t + 1)) (nI n) (nI al) fI fN fF k a1 a2 a3 a4 a5 a6 a7 s.1 s.2.1 s.2.2 a11 a12 a13 a14 a15) (fun i s => (∀ l, l ≠ j → s.1 l = a8 l ∧ s.2.1 l = a9 l ∧ s.2.2 l = a10 l) ∧ ((i = e + 1 ∧ s.2.1 j = nI 1000 ∧ ∀ d, f ≤ d → d < 8 → ws_g al c t d = 0) ∨ (i ≤ e ∧ s.1 j = nI (2 * i) - 2 ∧ s.2.1 j = nI (ps i) - 1 ∧ (0 < i → s.2.2 j = nI (c (ps i - 1) t) ∧ 0 < c (ps i - 1) t) ∧ ∀ d, f ≤ d → d + 1 < ps i → ws_g al c t d = 0))) (e + 1) i0 (a8, a9, a10) hi0 ⟨fun l _ => ⟨rfl, rfl, rfl⟩, st⟩ ?_ ?_
  · rintro k ⟨s8, s9, s10⟩ ⟨fr, hs⟩
    dsimp only at fr hs ⊢
    rcases hs with ⟨_, h2, h3⟩ | ⟨h1, _⟩
    · exact ⟨hin, br_t (by rw [cj]; exact h2) (H s8 s9 s10 1000 fr ⟨h2, Or.inl ⟨rfl, h3⟩⟩)⟩
    · omega
  · rintro k i ⟨s8, s9, s10⟩ hi ⟨fr, hs⟩ hw
    dsimp only at fr hs ⊢
    rcases hs with ⟨h1, _⟩ | ⟨h1, h2, h3, h4, h5⟩
    · omega
    · have r9 : s9 (nI j).toNatClampNeg = nI (ps i) - 1 := by
        rw [cj]
        exact h3
      have hpi : ps i ≤ 8 := by
        rcases Nat.eq_zero_or_pos i with z | z
        · rw [z, l3]
          omega
        · obtain ⟨i', rfl⟩ : ∃ i', i = i' + 1 := ⟨i - 1, by omega⟩
          have := (l5 i' (by omega)).2.1
          omega
      have go : (∀ d, f ≤ d → d < ps i → ws_g al c t d = 0) → wX_moveTo_42 post (wX_moveTo_7 post (nI j) (nI f) (nI (5 * t + 1)) (nI n) (nI al) fI fN fF k) (nI j) (nI f) (nI (5 * t + 1)) (nI n) (nI al) fI fN fF a1 a2 a3 a4 a5 a6 a7 s8 s9 s10 a11 a12 a13 a14 a15 := by
        intro Z
        refine ws_m42 (e := e) hj (by omega) (by omega) h1 h2 l1 (fun z => ?_) (fun z => ?_)
        · obtain ⟨m1, m2, m3, m4, m5, m6⟩ := l5 i z
          refine hw (_, _, _) ⟨fun l hl => ⟨(pk_un hl).trans (fr l hl).1, (pk_un hl).trans (fr l hl).2.1, (pk_un hl).trans (fr l hl).2.2⟩, Or.inr ⟨z, ?_, ?_, fun _ => ⟨?_, m5⟩, fun d hd hd2 => ?_⟩⟩
          · exact pk_us.trans (ws_cu i).symm
          · refine pk_us.trans ?_
            rw [h3, m3]
            exact ws_gap m1
          · exact pk_us.trans m4
          · by_cases hd3 : d < ps i
            · exact Z d hd hd3
            · exact m6 d (by omega) hd2
        · refine hw (_, _, _) ⟨fun l hl => ⟨(pk_un hl).trans (fr l hl).1, (pk_un hl).trans (fr l hl).2.1, (fr l hl).2.2⟩, Or.inl ⟨by omega, pk_us, fun d hd hd2 => ?_⟩⟩
          by_cases hd3 : d < ps i
          · exact Z d hd hd3
          · exact hT d (by rw [← z]; omega)
      refine ⟨hin, br_f (by rw [r9]; exact ws_nm _ (by omega)) ⟨hin, ?_⟩⟩
      rw [r9]
      rcases Nat.eq_zero_or_pos i with z | z
      · subst z
        rw [l3]
        exact br_t (ws_neg (by omega)) (go (fun d _ hd => by rw [l3] at hd; omega))
      · obtain ⟨i', rfl⟩ : ∃ i', i = i' + 1 := ⟨i - 1, by omega⟩
        have m1 := (l5 i' (by omega)).1
        rw [ws_pr (by omega)]
        refine pk_lt (ps (i' + 1) - 1) f (fun z2 => go (fun d hd hd2 => by omega)) (fun z2 => ⟨hin, ws_isLive hn ha (by omega) (fun z3 => br_f (by decide) ?_) (fun z3 => br_t rfl (go (fun d hd hd2 => ?_)))⟩)
        · exact H s8 s9 s10 (ps (i' + 1) - 1) fr ⟨h3.trans (ws_pr (by omega)), Or.inr ⟨z2, by omega, ws_g1 z3 (h4 z).2, (h4 z).1, fun d hd hd2 => h5 d hd (by omega), i', by omega, h2.trans (ws_cu i'), by omega⟩⟩
        · by_cases hd3 : d + 1 < ps (i' + 1)
          · exact h5 d hd hd3
          · have : d = ps (i' + 1) - 1 := by omega
            rw [this]
            exact ws_g0b z3
end
/-- a lane j for word t, its cursor at y -/
def ws_LJ (al : Nat) (c : Nat → Nat → Nat) (b : Nat → Nat) (E : Nat → Nat) (P : Nat → Nat → Nat) (f t y : Nat) (x8 x9 x10 x11 x12 x13 : Int32) : Prop :=
  t < 2 ∧ 0 < b t ∧ b t < 20 ∧ x13 = nI (5 * t + 1) ∧ x11 = nI (ws_wt al c b t) ∧ (∃ z, z ≤ 1327104 ∧ x12 = nI z) ∧ ws_PO al c t (E t) (P t) f x8 x9 x10 y
def ws_LN (al : Nat) (c : Nat → Nat → Nat) (b : Nat → Nat) (E : Nat → Nat) (P : Nat → Nat → Nat) (r : Nat) (p : Nat → Nat) (f : Nat) (a8 a9 a10 a11 a12 a13 : Nat → Int32) : Prop :=
  r ≤ 2 ∧ (∀ j, j < r → ∃ y, ws_LJ al c b E P f (p j) y (a8 j) (a9 j) (a10 j) (a11 j) (a12 j) (a13 j)) ∧ (∀ i j, i < r → j < r → p i = p j → i = j) ∧ (∀ t, t < 2 → 0 < b t → b t < 20 → ∃ j, j < r ∧ p j = t)
theorem ws_raN (al : Nat) (c : Nat → Nat → Nat) (t : Nat) : (64 : Int32) * (nI (ws_all al) + 1) / (nI (ws_spr al c t) + 1) = nI (ws_ra al c t) := by
  have h1 := ws_all_le al
  have h2 := ws_spr_le al c t
  rw [show (64 : Int32) = nI 64 from rfl, nI_1, nI_1, pk_mul, pk_div (by omega) (by omega) (by omega)]
  rfl
theorem ws_lsum {r : Nat} {p : Nat → Nat} {F : Nat → Nat} (hr : r ≤ 2) (hp : ∀ j, j < r → p j < 2) (hi : ∀ i j, i < r → j < r → p i = p j → i = j) (hz : ∀ t, t < 2 → (∀ j, j < r → p j ≠ t) → F t = 0) : ws_sum (fun j => F (p j)) r = F 0 + F 1 := by
  have h : r = 0 ∨ r = 1 ∨ r = 2 := by omega
  rcases h with rfl | rfl | rfl
  · rw [hz 0 (by decide) (fun j hj => absurd hj (by omega)), hz 1 (by decide) (fun j hj => absurd hj (by omega))]
    rfl
  · show 0 + F (p 0) = F 0 + F 1
    rcases ws_t2 (hp 0 (by decide)) with e | e
    · have h1 := hz 1 (by decide) (fun j hj => by
        have : j = 0 := by omega
        subst this
        omega)
      rw [e, h1]
      omega
    · have h1 := hz 0 (by decide) (fun j hj => by
        have : j = 0 := by omega
        subst this
        omega)
      rw [e, h1]
  · show 0 + F (p 0) + F (p 1) = F 0 + F 1
    have hne : p 0 ≠ p 1 := fun z => absurd (hi 0 1 (by decide) (by decide) z) (by decide)
    rcases ws_t2 (hp 0 (by decide)) with e | e <;> rcases ws_t2 (hp 1 (by decide)) with e' | e'
    · omega
    · rw [e, e']
      omega
    · rw [e, e']
      omega
    · omega
theorem ws_tm_l {al : Nat} {c : Nat → Nat → Nat} {b : Nat → Nat} {d t : Nat} (h : b t < 20) : ws_wt al c b t * ws_st (c d t) (c d 0 + c d 1) = ws_tm al c b d t := by
  unfold ws_tm
  by_cases e : 0 < c d t
  · rw [if_pos ⟨h, e⟩]
  · rw [if_neg (fun z => e z.2), show c d t = 0 by omega, ws_st0, Nat.mul_zero]
theorem ws_tm_z {al : Nat} {c : Nat → Nat → Nat} {b : Nat → Nat} {d t : Nat} (h : ¬ (0 < b t ∧ b t < 20)) : ws_tm al c b d t = 0 := by
  unfold ws_tm
  by_cases e : b t < 20
  · have e0 : b t = 0 := by omega
    split
    · unfold ws_wt
      rw [e0, Nat.zero_mod, Nat.zero_mul, Nat.zero_mul]
    · rfl
  · rw [if_neg (fun z => e z.1)]
theorem ws_tm_c {al : Nat} {c : Nat → Nat → Nat} {b : Nat → Nat} {d t : Nat} (h : c d t = 0) : ws_tm al c b d t = 0 := by
  unfold ws_tm
  rw [if_neg (fun z => by omega)]
end
section
/-! ===== openLanes, scoreOf, score ===== -/
section
variable {fA fL fI fN fF : Int32} {a1 a2 a3 a4 a5 a6 a7 a8 a9 a10 a11 a12 a13 a14 a15 : Nat → Int32}
variable {n al m : Nat} {c : Nat → Nat → Nat} {q b : Nat → Nat} {E : Nat → Nat} {P : Nat → Nat → Nat}
theorem ws_ol65 {post : St1 → Prop} {J : Int32 → Int32 → Int32 → Int32 → Int32 → Int32 → (Nat → Int32) → (Nat → Int32) → (Nat → Int32) → (Nat → Int32) → (Nat → Int32) → (Nat → Int32) → (Nat → Int32) → (Nat → Int32) → (Nat → Int32) → (Nat → Int32) → (Nat → Int32) → (Nat → Int32) → (Nat → Int32) → (Nat → Int32) → (Nat → Int32) → Prop} {x2 z0 : Int32} {t r : Nat} (hn : n ≤ 8) (ha : al < 2 ^ n) (ht : t < 2) (hr : r < 5) (hc : ∀ d t, c d t ≤ 7) (h4 : ∀ d, d < n → a4 d = nI (c d 0 + c d 1)) (hL : ws_LS al c t n a1 a2 (E t) (P t)) (hz : z0 = nI (b t % 10))
    (H : ∀ b8 b9 b10 z y, z ≤ 1327104 → (∀ l, l ≠ r → b8 l = a8 l ∧ b9 l = a9 l ∧ b10 l = a10 l) → ws_PO al c t (E t) (P t) 0 (b8 r) (b9 r) (b10 r) y → J (x2 + 1) (nI n) (nI al) fI (nI (r + 1)) fF a1 a2 a3 a4 a5 a6 a7 b8 b9 b10 (upd a11 r (nI (ws_wt al c b t))) (upd a12 r (nI z)) (upd a13 r (nI (5 * t + 1))) a14 a15) : wX_openLanes_65 post J (nI (ws_all al)) x2 (nI (5 * t + 1)) z0 (nI n) (nI al) fI (nI r) fF a1 a2 a3 a4 a5 a6 a7 a8 a9 a10 a11 a12 a13 a14 a15 := by
  have hin : vp_in (nI r) 5 := pk_in r 5 hr
  have cr : (nI r).toNatClampNeg = r := nI_clamp (by omega)
  have hsp := ws_spr_le al c t
  have hwt := ws_wt_le al c b t
  unfold wX_openLanes_65
  refine ws_spreadOf hn ha ht hL ⟨?_, nm_r (ws_raN al c t) ?_⟩
  · rw [nI_1]
    exact nI_ne0 (by omega) (by omega)
  rw [cr, hz, pk_mul]
  refine ⟨hin, nm_e (ws_greatest hn ht hc h4 hL (fun y hy => ⟨hin, nm_r (e' := upd a12 r (nI (ws_wt al c b t * y))) (by rw [pk_mul]; rfl) ⟨hin, nm_e ⟨hin, nm_e ⟨hin, nm_e (nm_r (nI_1 r) ?_)⟩⟩⟩⟩))⟩
  rw [nI_pred]
  refine ws_moveTo (f := 0) hn ha ht hr (by omega) hL pk_us (Or.inl ⟨pk_us, pk_us⟩) (fun b8 b9 b10 y' hf hpo => nm_e ?_)
  refine H b8 b9 b10 (ws_wt al c b t * y) y' (Nat.mul_le_mul hwt hy) (fun l hl => ?_) hpo
  obtain ⟨f8, f9, f10⟩ := hf l hl
  exact ⟨f8.trans (pk_un hl), f9.trans (pk_un hl), f10⟩
/-- the lanes of the first k items -/
def ws_L0 (al : Nat) (c : Nat → Nat → Nat) (q b : Nat → Nat) (E : Nat → Nat) (P : Nat → Nat → Nat) (k r : Nat) (p : Nat → Nat) (a8 a9 a10 a11 a12 a13 : Nat → Int32) : Prop :=
  r ≤ k ∧ (∀ j, j < r → ∃ y, ws_LJ al c b E P 0 (p j) y (a8 j) (a9 j) (a10 j) (a11 j) (a12 j) (a13 j)) ∧ (∀ i j, i < r → j < r → p i = p j → i = j) ∧ (∀ i, i < k → 0 < b (q i) → ∃ j, j < r ∧ p j = q i) ∧ (∀ j, j < r → ∃ i, i < k ∧ p j = q i)
theorem ws_openLanes {post : St1 → Prop} (hn : n ≤ 8) (ha : al < 2 ^ n) (hI : ws_I m q b a6 a7) (hc : ∀ d t, c d t ≤ 7) (h4 : ∀ d, d < n → a4 d = nI (c d 0 + c d 1)) (hL : ∀ t, t < 2 → ws_LS al c t n a1 a2 (E t) (P t))
    (H : ∀ r p b8 b9 b10 b11 b12 b13, ws_LN al c b E P r p 0 b8 b9 b10 b11 b12 b13 → post (nI n, nI al, nI m, nI r, fF, a1, a2, a3, a4, a5, a6, a7, b8, b9, b10, b11, b12, b13, a14, a15)) : wpX_openLanes post (nI n, nI al, nI m, fN, fF, a1, a2, a3, a4, a5, a6, a7, a8, a9, a10, a11, a12, a13, a14, a15) := by
  obtain ⟨i1, i2, i3, i4⟩ := hI
  refine ws_liveCount hn ha ?_
  refine pk_loop (σ := Int32 × (Nat → Int32) × (Nat → Int32) × (Nat → Int32) × (Nat → Int32) × (Nat → Int32) × (Nat → Int32)) (fun k i s => wX_openLanes_12 post (nI (ws_all al)) k (nI i) (nI n) (nI al) (nI m) s.1 fF a1 a2 a3 a4 a5 a6 a7 s.2.1 s.2.2.1 s.2.2.2.1 s.2.2.2.2.1 s.2.2.2.2.2.1 s.2.2.2.2.2.2 a14 a15) (fun i s => ∃ r p, s.1 = nI r ∧ ws_L0 al c q b E P i r p s.2.1 s.2.2.1 s.2.2.2.1 s.2.2.2.2.1 s.2.2.2.2.2.1 s.2.2.2.2.2.2) m 0 (0, a8, a9, a10, a11, a12, a13) (by omega) ⟨0, fun _ => 0, rfl, by omega, fun j hj => absurd hj (by omega), fun i j hi => absurd hi (by omega), fun i hi => absurd hi (by omega), fun j hj => absurd hj (by omega)⟩ ?_ ?_
  · rintro k ⟨gN, s8, s9, s10, s11, s12, s13⟩ ⟨r, p, s1, o1, o2, o3, o4, o5⟩
    dsimp only at s1 o2 ⊢
    subst s1
    refine pk_le m m (fun _ => H r p s8 s9 s10 s11 s12 s13 ⟨by omega, o2, o3, fun t ht hb hb2 => ?_⟩) (fun z => absurd z (by omega))
    by_cases e : ∃ k, k < m ∧ q k = t
    · obtain ⟨k, hk, rfl⟩ := e
      exact o4 k hk hb
    · have := i3 t ht (fun k hk z => e ⟨k, hk, z⟩)
      omega
  · rintro k i ⟨gN, s8, s9, s10, s11, s12, s13⟩ hi ⟨r, p, s1, o1, o2, o3, o4, o5⟩ hw
    dsimp only at s1 o2 ⊢
    subst s1
    obtain ⟨j1, j2, j3, j4, j5⟩ := i2 i hi
    have ci : (nI i).toNatClampNeg = i := nI_clamp (by omega)
    have hin : vp_in (nI i) 5 := pk_in i 5 (by omega)
    have add : ∀ b8 b9 b10 z y, 0 < b (q i) → z ≤ 1327104 → (∀ l, l ≠ r → b8 l = s8 l ∧ b9 l = s9 l ∧ b10 l = s10 l) → ws_PO al c (q i) (E (q i)) (P (q i)) 0 (b8 r) (b9 r) (b10 r) y → wX_openLanes_12 post (nI (ws_all al)) k (nI i + 1) (nI n) (nI al) (nI m) (nI (r + 1)) fF a1 a2 a3 a4 a5 a6 a7 b8 b9 b10 (upd s11 r (nI (ws_wt al c b (q i)))) (upd s12 r (nI z)) (upd s13 r (nI (5 * q i + 1))) a14 a15 := by
      intro b8 b9 b10 z y hb hz hf hpo
      rw [nI_1]
      refine hw (nI (r + 1), b8, b9, b10, upd s11 r (nI (ws_wt al c b (q i))), upd s12 r (nI z), upd s13 r (nI (5 * q i + 1))) ⟨r + 1, fun j => if j = r then q i else p j, rfl, by omega, fun j hj => ?_, fun u v hu hv huv => ?_, fun u hu hbu => ?_, fun j hj => ?_⟩
      · dsimp only
        by_cases e : j = r
        · subst e
          rw [if_pos rfl, pk_us, pk_us, pk_us]
          exact ⟨y, j1, hb, j4, rfl, rfl, ⟨z, hz, rfl⟩, hpo⟩
        · obtain ⟨f8, f9, f10⟩ := hf j e
          rw [if_neg e, pk_un e, pk_un e, pk_un e, f8, f9, f10]
          exact o2 j (by omega)
      · dsimp only at huv
        by_cases eu : u = r
        · by_cases ev : v = r
          · omega
          · rw [if_pos eu, if_neg ev] at huv
            obtain ⟨w, hw1, hw2⟩ := o5 v (by omega)
            have := i4 i w hi (by omega) (huv.trans hw2)
            omega
        · by_cases ev : v = r
          · rw [if_neg eu, if_pos ev] at huv
            obtain ⟨w, hw1, hw2⟩ := o5 u (by omega)
            have := i4 w i (by omega) hi (hw2.symm.trans huv)
            omega
          · rw [if_neg eu, if_neg ev] at huv
            exact o3 u v (by omega) (by omega) huv
      · dsimp only
        by_cases e : u = i
        · subst e
          exact ⟨r, by omega, if_pos rfl⟩
        · obtain ⟨j, hj, hj2⟩ := o4 u (by omega) hbu
          exact ⟨j, by omega, (if_neg (by omega)).trans hj2⟩
      · dsimp only
        by_cases e : j = r
        · exact ⟨i, by omega, if_pos e⟩
        · obtain ⟨u, hu, hu2⟩ := o5 j (by omega)
          exact ⟨u, by omega, (if_neg e).trans hu2⟩
    refine pk_le m i (fun z => absurd z (by omega)) (fun _ => ⟨hin, ?_⟩)
    rw [ci, j2, j3]
    refine pk_le (b (q i)) 0 (fun z => nm_r (nI_1 i) (hw (_, _, _, _, _, _, _) ⟨r, p, rfl, by omega, o2, o3, fun u hu hbu => ?_, fun j hj => ?_⟩)) (fun z => ⟨hin, nm_e ⟨hin, ?_⟩⟩)
    · by_cases e : u = i
      · subst e
        omega
      · exact o4 u (by omega) hbu
    · obtain ⟨u, hu, hu2⟩ := o5 j hj
      exact ⟨u, by omega, hu2⟩
    · refine pk_le (b (q i)) 10 (fun z2 => ⟨hin, ws_ol65 (b := b) hn ha j1 (by omega) hc h4 (hL _ j1) ?_ (fun b8 b9 b10 w y hw1 hf hpo => add b8 b9 b10 w y z hw1 hf hpo)⟩) (fun z2 => ⟨hin, ws_ol65 (b := b) hn ha j1 (by omega) hc h4 (hL _ j1) ?_ (fun b8 b9 b10 w y hw1 hf hpo => add b8 b9 b10 w y z hw1 hf hpo)⟩)
      · rw [show b (q i) % 10 = b (q i) by omega]
      · rw [show (10 : Int32) = nI 10 from rfl, pk_sub (by omega), show b (q i) % 10 = b (q i) - 10 by omega]
theorem ws_LN_sum {d r f : Nat} {p : Nat → Nat} (h : ws_LN al c b E P r p f a8 a9 a10 a11 a12 a13) : ws_sum (fun j => ws_tm al c b d (p j)) r = ws_sc al c b d := by
  obtain ⟨n1, n2, n3, n4⟩ := h
  refine ws_lsum (F := fun t => ws_tm al c b d t) n1 (fun j hj => ?_) n3 (fun t ht hz => ws_tm_z (fun w => ?_))
  · obtain ⟨y, hy⟩ := n2 j hj
    exact hy.1
  · obtain ⟨j, hj, e⟩ := n4 t ht w.1 w.2
    exact hz j hj e
theorem ws_scoreOf {post : Int32 → Prop} {d r f : Nat} {p : Nat → Nat} (hd : d < 8) (hc : ∀ d t, c d t ≤ 7) (h3 : ∀ w, w < 8 → a3 (8 * d + w) = nI (ws_sp (c d) w)) (h4 : a4 d = nI (c d 0 + c d 1)) (hN : ws_LN al c b E P r p f a8 a9 a10 a11 a12 a13) (h : post (nI (ws_sc al c b d))) : wpX_scoreOf post (fA, fL, fI, nI r, fF, a1, a2, a3, a4, a5, a6, a7, a8, a9, a10, a11, a12, a13, a14, a15) (nI d) := by
  have hS := ws_LN_sum (d := d) hN
  obtain ⟨n1, n2, n3, n4⟩ := hN
  have c0 := hc d 0
  have c1 := hc d 1
  refine pk_loop (σ := Int32) (fun k i s => wX_scoreOf_4 post (nI d) fA fL fI (nI r) fF a1 a2 a3 a4 a5 a6 a7 a8 a9 a10 a11 a12 a13 a14 a15 k s (nI i)) (fun i s => s = nI (ws_sum (fun j => ws_tm al c b d (p j)) i)) r 0 0 (by omega) rfl ?_ ?_
  · intro k s hs
    refine pk_le r r (fun _ => ?_) (fun z => absurd z (by omega))
    rw [hs, hS]
    exact h
  · intro k i s hi hs hw
    obtain ⟨y, y1, y2, y3, y4, y5, y6, y7⟩ := n2 i hi
    have hin : vp_in (nI i) 5 := pk_in i 5 (by omega)
    refine pk_le r i (fun z => absurd z (by omega)) (fun _ => ⟨hin, hin, ?_⟩)
    rw [nI_clamp (show i < 2 ^ 31 by omega), y4, y5]
    refine ⟨pk_in (8 * d + (5 * p i + 1)) 192 (by omega) (ws_ix8 _ _), pk_in d 24 (by omega), ws_strength (k := c d (p i)) (len := c d 0 + c d 1) (by rw [ws_ix8c (by omega), h3 _ (by omega), ws_sp_t y1]) (by rw [nI_clamp (by omega)]; exact h4) (hc _ _) (by omega) (nm_r (e' := nI (ws_sum (fun j => ws_tm al c b d (p j)) (i + 1))) ?_ (nm_r (nI_1 i) (hw _ rfl)))⟩
    rw [pk_mul, ws_tm_l y3, hs, nI_add, ws_sum_s]
theorem ws_score {post : Int32 → St1 → Prop} {d : Nat} (hn : n ≤ 8) (ha : al < 2 ^ n) (hd : d < 8) (hI : ws_I m q b a6 a7) (hc : ∀ d t, c d t ≤ 7) (h3 : ∀ d, d < n → ∀ w, w < 8 → a3 (8 * d + w) = nI (ws_sp (c d) w)) (h4 : ∀ d, d < n → a4 d = nI (c d 0 + c d 1)) (hL : ∀ t, t < 2 → ws_LS al c t n a1 a2 (E t) (P t))
    (h0 : ws_b al d = 0 → post (-1) (nI n, nI al, nI m, fN, fF, a1, a2, a3, a4, a5, a6, a7, a8, a9, a10, a11, a12, a13, a14, a15))
    (h1 : ws_b al d = 1 → ∀ gN b8 b9 b10 b11 b12 b13, post (nI (ws_sc al c b d)) (nI n, nI al, nI m, gN, fF, a1, a2, a3, a4, a5, a6, a7, b8, b9, b10, b11, b12, b13, a14, a15)) : wpX_score post (nI n, nI al, nI m, fN, fF, a1, a2, a3, a4, a5, a6, a7, a8, a9, a10, a11, a12, a13, a14, a15) (nI d) := by
  unfold wpX_score
  refine ws_isLive hn ha hd (fun z => br_f (by decide) ?_) (fun z => br_t rfl (h0 z))
  have hdn : d < n := by
    rcases Nat.lt_or_ge d n with w | w
    · exact w
    · rw [ws_hi ha w] at z
      omega
  exact ws_openLanes hn ha hI hc h4 hL (fun r p b8 b9 b10 b11 b12 b13 hN => ws_scoreOf hd hc (h3 d hdn) (h4 d hdn) hN (h1 z _ _ _ _ _ _ _))
end
end
section
/-! ===== findBest ===== -/
theorem ws_pick {r : Nat} {Q : Nat → Nat → Prop} (h : ∀ j, j < r → ∃ y, Q j y) : ∃ Y : Nat → Nat, ∀ j, j < r → Q j (Y j) := by
  refine ⟨fun j => if h' : j < r then Classical.choose (h j h') else 0, fun j hj => ?_⟩
  dsimp only
  rw [dif_pos hj]
  exact Classical.choose_spec (h j hj)
def ws_min (Y : Nat → Nat) : Nat → Nat
  | 0 => 1000
  | k + 1 => if ws_min Y k ≤ Y k then ws_min Y k else Y k
theorem ws_min_s (Y : Nat → Nat) (k : Nat) : ws_min Y (k + 1) = if ws_min Y k ≤ Y k then ws_min Y k else Y k := rfl
theorem ws_min_1 (Y : Nat → Nat) : ∀ r, ws_min Y r ≤ 1000
  | 0 => Nat.le_refl _
  | r + 1 => by
    have := ws_min_1 Y r
    rw [ws_min_s]
    split <;> omega
theorem ws_min_le {Y : Nat → Nat} : ∀ r j, j < r → ws_min Y r ≤ Y j
  | 0, j, h => absurd h (by omega)
  | r + 1, j, h => by
    rw [ws_min_s]
    by_cases e : j = r
    · subst e
      split <;> omega
    · have := ws_min_le (Y := Y) r j (by omega)
      split <;> omega
theorem ws_min_m {Y : Nat → Nat} : ∀ r, ws_min Y r = 1000 ∨ ∃ j, j < r ∧ ws_min Y r = Y j
  | 0 => Or.inl rfl
  | r + 1 => by
    rw [ws_min_s]
    split
    · rcases ws_min_m r with h | ⟨j, hj, h⟩
      · exact Or.inl h
      · exact Or.inr ⟨j, by omega, h⟩
    · exact Or.inr ⟨r, by omega, rfl⟩
theorem ws_nn {z : Nat} (h : z < 2 ^ 31) : ¬ nI z ≤ -1 := by
  intro w
  rw [Int32.le_iff_toInt_le, nI_toInt h] at w
  have e : (-1 : Int32).toInt = -1 := by decide
  rw [e] at w
  omega
theorem ws_mono {s : Nat → Nat} {k : Nat} (hd : ∀ i, i + 1 < k → s (i + 1) ≤ s i) : ∀ j, j < k → s j ≤ s 0
  | 0, _ => Nat.le_refl _
  | j + 1, h => Nat.le_trans (hd j h) (ws_mono hd j (by omega))
section
variable {fA fL fI fN fF : Int32} {a1 a2 a3 a4 a5 a6 a7 a8 a9 a10 a11 a12 a13 a14 a15 : Nat → Int32}
variable {n al m : Nat} {c : Nat → Nat → Nat} {q b : Nat → Nat} {E : Nat → Nat} {P : Nat → Nat → Nat}
theorem ws_least {post : Int32 → Prop} {r : Nat} {Y : Nat → Nat} (hr : r ≤ 2) (hY : ∀ j, j < r → a9 j = nI (Y j) ∧ Y j ≤ 1000) (h : post (nI (ws_min Y r))) : wpX_leastDocument post (fA, fL, fI, nI r, fF, a1, a2, a3, a4, a5, a6, a7, a8, a9, a10, a11, a12, a13, a14, a15) := by
  refine pk_loop (σ := Int32) (fun k i s => wX_leastDocument_6 post fA fL fI (nI r) fF a1 a2 a3 a4 a5 a6 a7 a8 a9 a10 a11 a12 a13 a14 a15 k s (nI i)) (fun i s => s = nI (ws_min Y i)) r 0 1000 (by omega) rfl ?_ ?_
  · intro k s hs
    refine pk_le r r (fun _ => ?_) (fun z => absurd z (by omega))
    rw [hs]
    exact h
  · intro k i s hi hs hw
    obtain ⟨y1, y2⟩ := hY i hi
    have hm := ws_min_1 Y i
    have hin : vp_in (nI i) 5 := pk_in i 5 (by omega)
    have e9 : a9 (nI i).toNatClampNeg = nI (Y i) := by
      rw [nI_clamp (by omega)]
      exact y1
    refine pk_le r i (fun z => absurd z (by omega)) (fun _ => ⟨hin, ?_⟩)
    rw [e9, hs]
    refine pk_le (ws_min Y i) (Y i) (fun z => nm_r (nI_1 i) (hw _ ?_)) (fun z => ⟨hin, nm_e (nm_r (nI_1 i) (hw _ ?_))⟩)
    · rw [ws_min_s, if_pos z]
    · rw [ws_min_s, if_neg (by omega)]
theorem ws_next {post : Int32 → Prop} {r : Nat} {Y : Nat → Nat} (hr : r ≤ 2) (hY : ∀ j, j < r → a9 j = nI (Y j) ∧ Y j ≤ 1000) (hB : ∀ j, j < r → ∃ z, z ≤ 1327104 ∧ a12 j = nI z) (hF : ¬ fF = 10) (h : post (nI (ws_min Y r))) : wpX_nextChance post (fA, fL, fI, nI r, fF, a1, a2, a3, a4, a5, a6, a7, a8, a9, a10, a11, a12, a13, a14, a15) := by
  refine br_f hF ?_
  refine pk_loop (σ := Int32) (fun k i s => wX_nextChance_27 post (-1) fA fL fI (nI r) fF a1 a2 a3 a4 a5 a6 a7 a8 a9 a10 a11 a12 a13 a14 a15 k s (nI i)) (fun i s => s = nI (ws_min Y i)) r 0 1000 (by omega) rfl ?_ ?_
  · intro k s hs
    refine pk_le r r (fun _ => ?_) (fun z => absurd z (by omega))
    rw [hs]
    exact h
  · intro k i s hi hs hw
    obtain ⟨y1, y2⟩ := hY i hi
    have hm := ws_min_1 Y i
    have hin : vp_in (nI i) 5 := pk_in i 5 (by omega)
    have e9 : a9 (nI i).toNatClampNeg = nI (Y i) := by
      rw [nI_clamp (by omega)]
      exact y1
    refine pk_le r i (fun z => absurd z (by omega)) (fun _ => ?_)
    refine pk_loop (σ := Int32) (fun k' j x => wX_nextChance_41 post (wX_nextChance_27 post (-1) fA fL fI (nI r) fF a1 a2 a3 a4 a5 a6 a7 a8 a9 a10 a11 a12 a13 a14 a15 k) (-1) s (nI i) fA fL fI (nI r) fF a1 a2 a3 a4 a5 a6 a7 a8 a9 a10 a11 a12 a13 a14 a15 k' x (nI j)) (fun j x => ∃ z, z ≤ 2654208 ∧ (j = 0 → z = 0) ∧ (j ≤ 1 → z ≤ 1327104) ∧ x = nI z) r 0 0 (by omega) ⟨0, by omega, by omega, by omega, rfl⟩ ?_ ?_
    · rintro k' x ⟨z, hz, _, _, rfl⟩
      refine pk_le r r (fun _ => br_f (ws_nn (by omega)) ⟨hin, ?_⟩) (fun z => absurd z (by omega))
      rw [e9, hs]
      refine pk_le (ws_min Y i) (Y i) (fun z => nm_r (nI_1 i) (hw _ ?_)) (fun z => ⟨hin, nm_e (nm_r (nI_1 i) (hw _ ?_))⟩)
      · rw [ws_min_s, if_pos z]
      · rw [ws_min_s, if_neg (by omega)]
    · rintro k' j x hj ⟨z, hz, hz0, hz1, rfl⟩ hw'
      obtain ⟨z', hz', e12⟩ := hB j hj
      have hjn : vp_in (nI j) 5 := pk_in j 5 (by omega)
      refine pk_le r j (fun z => absurd z (by omega)) (fun _ => ⟨hjn, hin, br_c (fun _ => nm_r (e' := nI z) (Int32.add_zero _) (nm_r (nI_1 j) (hw' _ ⟨z, by omega, by omega, by omega, rfl⟩))) (fun _ => ⟨hjn, nm_r (e' := nI (z + z')) (by rw [nI_clamp (by omega), e12, nI_add]) (nm_r (nI_1 j) (hw' _ ⟨z + z', by omega, by omega, by omega, rfl⟩))⟩)⟩)
theorem ws_scoreHere {post : Int32 → Prop} {d r f : Nat} {p Y : Nat → Nat} (hd : d < 8) (hbd : ws_b al d = 1) (hfd : f ≤ d) (hc : ∀ d t, c d t ≤ 7) (h4 : a4 d = nI (c d 0 + c d 1)) (hN : ws_LN al c b E P r p f a8 a9 a10 a11 a12 a13) (hY : ∀ j, j < r → ws_LJ al c b E P f (p j) (Y j) (a8 j) (a9 j) (a10 j) (a11 j) (a12 j) (a13 j)) (hm : ∀ j, j < r → d ≤ Y j) (h : post (nI (ws_sc al c b d))) : wpX_scoreHere post (fA, fL, fI, nI r, fF, a1, a2, a3, a4, a5, a6, a7, a8, a9, a10, a11, a12, a13, a14, a15) (nI d) := by
  have hS := ws_LN_sum (d := d) hN
  have n1 := hN.1
  have c0 := hc d 0
  have c1 := hc d 1
  refine pk_loop (σ := Int32) (fun k i s => wX_scoreHere_4 post (nI d) fA fL fI (nI r) fF a1 a2 a3 a4 a5 a6 a7 a8 a9 a10 a11 a12 a13 a14 a15 k s (nI i)) (fun i s => s = nI (ws_sum (fun j => ws_tm al c b d (p j)) i)) r 0 0 (by omega) rfl ?_ ?_
  · intro k s hs
    refine pk_le r r (fun _ => ?_) (fun z => absurd z (by omega))
    rw [hs, hS]
    exact h
  · intro k i s hi hs hw
    obtain ⟨y1, y2, y3, y4, y5, y6, y7, y8⟩ := hY i hi
    have hin : vp_in (nI i) 5 := pk_in i 5 (by omega)
    have hmi := hm i hi
    have ci : (nI i).toNatClampNeg = i := nI_clamp (by omega)
    have hYle : Y i ≤ 1000 := by omega
    refine pk_le r i (fun z => absurd z (by omega)) (fun _ => ⟨hin, ?_⟩)
    rw [ci, y7, y5]
    refine pk_eq (Y i) d (fun z => ?_) (fun z => nm_r (nI_1 i) (hw _ ?_))
    · rcases y8 with ⟨w, _⟩ | ⟨_, _, _, w10, _⟩
      · omega
      · rw [z] at w10
        refine ⟨hin, hin, pk_in d 24 (by omega), ws_strength (k := c d (p i)) (len := c d 0 + c d 1) w10 (by rw [nI_clamp (by omega)]; exact h4) (hc _ _) (by omega) (nm_r (e' := nI (ws_sum (fun j => ws_tm al c b d (p j)) (i + 1))) ?_ (nm_r (nI_1 i) (hw _ rfl)))⟩
        rw [pk_mul, ws_tm_l y3, hs, nI_add, ws_sum_s]
    · have hg : ws_g al c (p i) d = 0 := by
        rcases y8 with ⟨_, w⟩ | ⟨_, _, _, _, w, _⟩
        · exact w d hfd hd
        · exact w d hfd (by omega)
      rw [hs, ws_sum_s, ws_tm_c (ws_gO hg hbd), Nat.add_zero]
theorem ws_of75 {post : St1 → Prop} {k d v i : Nat} {s : Nat → Nat} {o14 o15 : Nat → Int32} (hk : k ≤ 8) (hv : v < 2 ^ 30) (hs : ∀ i, i < k → o15 i = nI (s i) ∧ s i < 2 ^ 30) (hd : ∀ i, i + 1 < k → s (i + 1) ≤ s i)
    (hi : i ≤ k) (f1 : ∀ l, l < i → a15 l = o15 l ∧ a14 l = o14 l) (f2 : ∀ l, i < l → l ≤ k → a15 l = nI (s (l - 1))) (f3 : i < k → s i < v) (ex : i = 0 ∨ v ≤ s (i - 1))
    (H : ∀ (b14 b15 : Nat → Int32) (s' : Nat → Nat), (∀ i, i < k + 1 → b15 i = nI (s' i) ∧ s' i < 2 ^ 30) → (∀ i, i + 1 < k + 1 → s' (i + 1) ≤ s' i) → ((k = 0 ∨ s 0 < v) → s' 0 = v ∧ b14 0 = nI d) → (¬ (k = 0 ∨ s 0 < v) → s' 0 = s 0 ∧ b14 0 = o14 0) → post (fA, fL, fI, fN, nI (k + 1), a1, a2, a3, a4, a5, a6, a7, a8, a9, a10, a11, a12, a13, b14, b15)) : wX_offer_75 post (nI d) (nI v) (nI i) fA fL fI fN (nI k) a1 a2 a3 a4 a5 a6 a7 a8 a9 a10 a11 a12 a13 a14 a15 := by
  have ci : (nI i).toNatClampNeg = i := nI_clamp (by omega)
  have hin : vp_in (nI i) 10 := pk_in i 10 (by omega)
  have hm := ws_mono hd
  refine pk_le 10 i (fun z => absurd z (by omega)) (fun _ => ?_)
  rw [ci]
  refine ⟨hin, nm_e ⟨hin, nm_e (pk_le 10 k (fun z => absurd z (by omega)) (fun _ => nm_r (nI_1 k) (H _ _ (fun l => if l < i then s l else if l = i then v else s (l - 1)) (fun l hl => ?_) (fun l hl => ?_) (fun z => ?_) (fun z => ?_))))⟩⟩
  · by_cases e1 : l < i
    · rw [if_pos e1]
      exact ⟨(pk_un (by omega)).trans ((f1 l e1).1.trans (hs l (by omega)).1), (hs l (by omega)).2⟩
    · rw [if_neg e1]
      by_cases e2 : l = i
      · rw [if_pos e2]
        subst e2
        exact ⟨pk_us, hv⟩
      · rw [if_neg e2]
        exact ⟨(pk_un e2).trans (f2 l (by omega) (by omega)), (hs (l - 1) (by omega)).2⟩
  · by_cases e1 : l + 1 < i
    · rw [if_pos e1, if_pos (by omega)]
      exact hd l (by omega)
    · rw [if_neg e1]
      by_cases e2 : l + 1 = i
      · rw [if_pos e2, if_pos (by omega)]
        rcases ex with ex | ex
        · omega
        · rw [show l = i - 1 by omega]
          exact ex
      · rw [if_neg e2, if_neg (show ¬ l < i by omega), Nat.add_sub_cancel]
        by_cases e3 : l = i
        · rw [if_pos e3, e3]
          exact Nat.le_of_lt (f3 (by omega))
        · rw [if_neg e3]
          have := hd (l - 1) (by omega)
          rwa [show l - 1 + 1 = l by omega] at this
  · have hi0 : i = 0 := by
      rcases Nat.eq_zero_or_pos i with w | w
      · exact w
      · rcases ex with ex | ex
        · exact ex
        · have := hm (i - 1) (by omega)
          omega
    subst hi0
    exact ⟨rfl, pk_us⟩
  · have hi0 : 0 < i := by
      rcases Nat.eq_zero_or_pos i with w | w
      · subst w
        have := f3 (by omega)
        exact absurd (Or.inr this) z
      · exact w
    refine ⟨?_, (pk_un (by omega)).trans (f1 0 hi0).2⟩
    rw [if_pos hi0]
theorem ws_offer {post : St1 → Prop} {k d v : Nat} {s : Nat → Nat} (hk : k ≤ 8) (hv : v < 2 ^ 30) (hs : ∀ i, i < k → a15 i = nI (s i) ∧ s i < 2 ^ 30) (hd : ∀ i, i + 1 < k → s (i + 1) ≤ s i)
    (H : ∀ (b14 b15 : Nat → Int32) (s' : Nat → Nat), (∀ i, i < k + 1 → b15 i = nI (s' i) ∧ s' i < 2 ^ 30) → (∀ i, i + 1 < k + 1 → s' (i + 1) ≤ s' i) → ((k = 0 ∨ s 0 < v) → s' 0 = v ∧ b14 0 = nI d) → (¬ (k = 0 ∨ s 0 < v) → s' 0 = s 0 ∧ b14 0 = a14 0) → post (fA, fL, fI, fN, nI (k + 1), a1, a2, a3, a4, a5, a6, a7, a8, a9, a10, a11, a12, a13, b14, b15)) : wpX_offer post (fA, fL, fI, fN, nI k, a1, a2, a3, a4, a5, a6, a7, a8, a9, a10, a11, a12, a13, a14, a15) (nI d) (nI v) := by
  refine pk_le 10 k (fun z => absurd z (by omega)) (fun _ => ⟨k + 1, ?_⟩)
  refine pk_loopD (σ := (Nat → Int32) × (Nat → Int32)) (fun n i st => wX_offer_19 post (nI d) (nI v) fA fL fI fN (nI k) n (nI i) a1 a2 a3 a4 a5 a6 a7 a8 a9 a10 a11 a12 a13 st.1 st.2) (fun i st => i ≤ k ∧ (∀ l, l < i → st.2 l = a15 l ∧ st.1 l = a14 l) ∧ (∀ l, i < l → l ≤ k → st.2 l = nI (s (l - 1))) ∧ (i < k → s i < v)) ?_ ?_ k (a14, a15) ⟨by omega, fun l _ => ⟨rfl, rfl⟩, fun l h1 h2 => absurd h1 (by omega), fun h => absurd h (by omega)⟩
  · rintro n ⟨s14, s15⟩ ⟨o1, o2, o3, o4⟩
    exact pk_le 0 0 (fun _ => ws_of75 (s := s) (i := 0) hk hv hs hd o1 o2 o3 o4 (Or.inl rfl) H) (fun z => absurd z (by omega))
  · rintro n i ⟨s14, s15⟩ ⟨o1, o2, o3, o4⟩ hw
    dsimp only at o2 o3 hw ⊢
    obtain ⟨hs1, hs2⟩ := hs i (by omega)
    have ci : (nI i).toNatClampNeg = i := nI_clamp (by omega)
    have hin : vp_in (nI i) 10 := pk_in i 10 (by omega)
    have cj : (nI (i + 1)).toNatClampNeg = i + 1 := nI_clamp (by omega)
    have hjn : vp_in (nI (i + 1)) 10 := pk_in (i + 1) 10 (by omega)
    refine pk_le (i + 1) 0 (fun z => absurd z (by omega)) (fun _ => ?_)
    rw [nI_pred, ci, cj, (o2 i (by omega)).1, (o2 i (by omega)).2, hs1]
    refine ⟨hin, pk_le v (s i) (fun z => ?_) (fun z => pk_le 10 (i + 1) (fun w => absurd w (by omega)) (fun _ => ⟨hin, hjn, nm_e ⟨hin, hjn, nm_e (nm_r (pk_m1 i) (hw (_, _) ⟨by omega, fun l hl => ?_, fun l h1 h2 => ?_, fun _ => z⟩))⟩⟩))⟩
    · exact ws_of75 (s := s) (i := i + 1) hk hv hs hd o1 o2 o3 o4 (Or.inr z) H
    · exact ⟨(pk_un (by omega)).trans (o2 l (by omega)).1, (pk_un (by omega)).trans (o2 l (by omega)).2⟩
    · by_cases e : l = i + 1
      · subst e
        exact pk_us
      · exact (pk_un e).trans (o3 l (by omega) h2)
end
end
section
/-! ===== findBest, ranked, rankedScore ===== -/
/-- the best so far: below f -/
def ws_BS (al : Nat) (c : Nat → Nat → Nat) (b : Nat → Nat) (f : Nat) (a14 a15 : Nat → Int32) : Prop :=
  ∃ s : Nat → Nat, (∀ i, i < ws_cnt al c b f → a15 i = nI (s i) ∧ s i < 2 ^ 30) ∧ (∀ i, i + 1 < ws_cnt al c b f → s (i + 1) ≤ s i) ∧ (0 < ws_cnt al c b f → s 0 = ws_M al c b f ∧ a14 0 = nI (ws_B al c b f))
theorem ws_BS_skip {al : Nat} {c : Nat → Nat → Nat} {b : Nat → Nat} {f z : Nat} {a14 a15 : Nat → Int32} (hfz : f ≤ z) (h : ∀ d, f ≤ d → d < z → ws_in al c b d = 0) (hB : ws_BS al c b f a14 a15) : ws_cnt al c b z = ws_cnt al c b f ∧ ws_BS al c b z a14 a15 := by
  obtain ⟨e1, e2, e3⟩ := ws_skip z hfz h
  refine ⟨e1, ?_⟩
  unfold ws_BS
  rw [e1, e2, e3]
  exact hB
section
variable {fA fL fI fN fF : Int32} {a1 a2 a3 a4 a5 a6 a7 a8 a9 a10 a11 a12 a13 a14 a15 : Nat → Int32}
variable {n al m : Nat} {c : Nat → Nat → Nat} {q b : Nat → Nat} {E : Nat → Nat} {P : Nat → Nat → Nat}
theorem ws_noin {r z f : Nat} {p Y : Nat → Nat} (hN : ws_LN al c b E P r p f a8 a9 a10 a11 a12 a13) (hY : ∀ j, j < r → ws_LJ al c b E P f (p j) (Y j) (a8 j) (a9 j) (a10 j) (a11 j) (a12 j) (a13 j)) (hz : ∀ j, j < r → z ≤ Y j) : ∀ d, f ≤ d → d < z → d < 8 → ws_in al c b d = 0 := by
  intro d h1 h2 h3
  refine ws_in0 (fun w => ?_)
  obtain ⟨hb, _, t, ht, t1, t2, t3⟩ := w
  obtain ⟨j, hj, rfl⟩ := hN.2.2.2 t ht t1 t2
  have hyj := hz j hj
  obtain ⟨y1, y2, y3, y4, y5, y6, y7, y8⟩ := hY j hj
  have hg := ws_g1 hb t3
  rcases y8 with ⟨_, w⟩ | ⟨_, _, _, _, w, _⟩
  · rw [w d h1 h3] at hg
    omega
  · rw [w d h1 (by omega)] at hg
    omega
theorem ws_fb65 {post : St1 → Prop} {J : Int32 → Int32 → Int32 → Int32 → Int32 → Int32 → (Nat → Int32) → (Nat → Int32) → (Nat → Int32) → (Nat → Int32) → (Nat → Int32) → (Nat → Int32) → (Nat → Int32) → (Nat → Int32) → (Nat → Int32) → (Nat → Int32) → (Nat → Int32) → (Nat → Int32) → (Nat → Int32) → (Nat → Int32) → (Nat → Int32) → Prop} {x1 : Int32} {z f r : Nat} {p : Nat → Nat} (hn : n ≤ 8) (ha : al < 2 ^ n) (hL : ∀ t, t < 2 → ws_LS al c t n a1 a2 (E t) (P t)) (hz : z < 8) (hf : f ≤ z + 1) (hN : ws_LN al c b E P r p f a8 a9 a10 a11 a12 a13)
    (H : ∀ b8 b9 b10, ws_LN al c b E P r p (z + 1) b8 b9 b10 a11 a12 a13 → J (x1 + 1) (nI n) (nI al) fI (nI r) fF a1 a2 a3 a4 a5 a6 a7 b8 b9 b10 a11 a12 a13 a14 a15) : ∃ fu, wX_findBest_65 post J x1 (nI z) fu 0 (nI n) (nI al) fI (nI r) fF a1 a2 a3 a4 a5 a6 a7 a8 a9 a10 a11 a12 a13 a14 a15 := by
  obtain ⟨n1, n2, n3, n4⟩ := hN
  refine pk_loop (σ := (Nat → Int32) × (Nat → Int32) × (Nat → Int32)) (fun k l s => wX_findBest_65 post J x1 (nI z) k (nI l) (nI n) (nI al) fI (nI r) fF a1 a2 a3 a4 a5 a6 a7 s.1 s.2.1 s.2.2 a11 a12 a13 a14 a15) (fun l s => ∀ j, j < r → ∃ y, ws_LJ al c b E P (if j < l then z + 1 else f) (p j) y (s.1 j) (s.2.1 j) (s.2.2 j) (a11 j) (a12 j) (a13 j)) r 0 (a8, a9, a10) (by omega) (fun j hj => n2 j hj) ?_ ?_
  · rintro k ⟨s8, s9, s10⟩ hs
    refine pk_le r r (fun _ => nm_e (H s8 s9 s10 ⟨n1, fun j hj => ?_, n3, n4⟩)) (fun z => absurd z (by omega))
    have := hs j hj
    rwa [if_pos hj] at this
  · rintro k l ⟨s8, s9, s10⟩ hl hs hw
    dsimp only at hs ⊢
    obtain ⟨y, hy⟩ := hs l hl
    rw [if_neg (by omega)] at hy
    obtain ⟨y1, y2, y3, y4, y5, y6, y7⟩ := hy
    refine pk_le r l (fun z => absurd z (by omega)) (fun _ => ?_)
    rw [nI_1 z]
    refine ws_moveTo hn ha y1 (by omega) (by omega) (hL _ y1) y4 (Or.inr ⟨f, y, hf, y7⟩) (fun b8 b9 b10 y' hfr hpo => nm_r (nI_1 l) (hw (b8, b9, b10) (fun j hj => ?_)))
    dsimp only
    by_cases e : j = l
    · subst e
      rw [if_pos (by omega)]
      exact ⟨y', y1, y2, y3, y4, y5, y6, hpo⟩
    · obtain ⟨f8, f9, f10⟩ := hfr j e
      have ei : (if j < l + 1 then z + 1 else f) = (if j < l then z + 1 else f) := by
        by_cases w : j < l
        · rw [if_pos w, if_pos (by omega)]
        · rw [if_neg w, if_neg (by omega)]
      rw [ei, f8, f9, f10]
      exact hs j hj
theorem ws_findBest {post : St1 → Prop} (hn : n ≤ 8) (ha : al < 2 ^ n) (hI : ws_I m q b a6 a7) (hc : ∀ d t, c d t ≤ 7) (h3 : ∀ d, d < n → ∀ w, w < 8 → a3 (8 * d + w) = nI (ws_sp (c d) w)) (h4 : ∀ d, d < n → a4 d = nI (c d 0 + c d 1)) (hL : ∀ t, t < 2 → ws_LS al c t n a1 a2 (E t) (P t))
    (H : ∀ gN b8 b9 b10 b11 b12 b13 b14 b15, ws_BS al c b 8 b14 b15 → post (nI n, nI al, nI m, gN, nI (ws_cnt al c b 8), a1, a2, a3, a4, a5, a6, a7, b8, b9, b10, b11, b12, b13, b14, b15)) : wpX_findBest post (nI n, nI al, nI m, fN, fF, a1, a2, a3, a4, a5, a6, a7, a8, a9, a10, a11, a12, a13, a14, a15) := by
  unfold wpX_findBest
  refine ws_openLanes hn ha hI hc h4 hL (fun r p c8 c9 c10 b11 b12 b13 hN0 => ?_)
  refine pk_loop (σ := Int32 × (Nat → Int32) × (Nat → Int32) × (Nat → Int32) × (Nat → Int32) × (Nat → Int32)) (fun k i s => wX_findBest_11 post k (nI i) (nI n) (nI al) (nI m) (nI r) s.1 a1 a2 a3 a4 a5 a6 a7 s.2.1 s.2.2.1 s.2.2.2.1 b11 b12 b13 s.2.2.2.2.1 s.2.2.2.2.2) (fun i s => ∃ f, i ≤ f ∧ f ≤ 8 ∧ s.1 = nI (ws_cnt al c b f) ∧ ws_LN al c b E P r p f s.2.1 s.2.2.1 s.2.2.2.1 b11 b12 b13 ∧ ws_BS al c b f s.2.2.2.2.1 s.2.2.2.2.2) 9 0 (0, c8, c9, c10, a14, a15) (by omega) ⟨0, by omega, by omega, rfl, hN0, fun _ => 0, fun i hi => absurd hi (Nat.not_lt_zero _), fun i hi => absurd hi (Nat.not_lt_zero _), fun hi => absurd hi (Nat.not_lt_zero _)⟩ ?_ ?_
  · rintro k ⟨gF, s8, s9, s10, s14, s15⟩ ⟨f, f1, f2, _⟩
    omega
  · rintro k i ⟨gF, s8, s9, s10, s14, s15⟩ hi ⟨f, f1, f2, f3, hN, hB⟩ hw
    dsimp only at f3 hN hB hw ⊢
    subst f3
    obtain ⟨Y, hY⟩ := ws_pick hN.2.1
    have hcf := ws_cnt_le al c b f
    have hY9 : ∀ j, j < r → s9 j = nI (Y j) ∧ Y j ≤ 1000 := by
      intro j hj
      obtain ⟨y1, y2, y3, y4, y5, y6, y7, y8⟩ := hY j hj
      exact ⟨y7, by omega⟩
    have hYb : ∀ j, j < r → ∃ z, z ≤ 1327104 ∧ b12 j = nI z := fun j hj => (hY j hj).2.2.2.2.2.1
    have hm1 := ws_min_1 Y r
    have hmle : ∀ j, j < r → ws_min Y r ≤ Y j := fun j hj => ws_min_le r j hj
    have hno := ws_noin hN hY hmle
    have nx : ∀ g, i + 1 ≤ g → g ≤ 8 → ∀ b8 b9 b10 b14 b15, ws_LN al c b E P r p g b8 b9 b10 b11 b12 b13 → ws_BS al c b g b14 b15 → wX_findBest_11 post k (nI i + 1) (nI n) (nI al) (nI m) (nI r) (nI (ws_cnt al c b g)) a1 a2 a3 a4 a5 a6 a7 b8 b9 b10 b11 b12 b13 b14 b15 := by
      intro g g1 g2 b8 b9 b10 b14 b15 hN' hB'
      rw [nI_1]
      exact hw (nI (ws_cnt al c b g), b8, b9, b10, b14, b15) ⟨g, g1, g2, rfl, hN', hB'⟩
    refine pk_le 125 i (fun z => absurd z (by omega)) (fun _ => ?_)
    refine ws_next hN.1 hY9 hYb (fun z => absurd ((nI_eq (b := 10) (by omega) (by omega)).mp z) (by omega)) (pk_eq (ws_min Y r) 1000 (fun z => ?_) (fun z => ?_))
    · obtain ⟨e1, e2⟩ := ws_BS_skip (z := 8) f2 (fun d h1 h2 => hno d h1 (by omega) h2) hB
      rw [← e1]
      exact H _ _ _ _ _ _ _ _ _ e2
    · have hz : f ≤ ws_min Y r ∧ ws_min Y r < 8 ∧ ws_b al (ws_min Y r) = 1 := by
        rcases ws_min_m (Y := Y) r with w | ⟨j, hj, w⟩
        · exact absurd w z
        · obtain ⟨y1, y2, y3, y4, y5, y6, y7, y8⟩ := hY j hj
          rcases y8 with ⟨w2, _⟩ | ⟨w1, w2, w3, _⟩
          · omega
          · rw [w]
            exact ⟨w1, w2, (ws_gI w3).1⟩
      refine ws_least hN.1 hY9 (br_t rfl ?_)
      generalize ws_min Y r = z' at hz hno hm1 hmle z ⊢
      obtain ⟨z1, z2, z3⟩ := hz
      have hzn : z' < n := by
        rcases Nat.lt_or_ge z' n with w | w
        · exact w
        · rw [ws_hi ha w] at z3
          omega
      have hcz := ws_skip z' z1 (fun d h1 h2 => hno d h1 h2 (by omega))
      refine ws_matches hI z2 hc (h3 z' hzn) (fun hm => br_f (by decide) (ws_scoreHere (f := f) (Y := Y) z2 z3 z1 hc (h4 z' hzn) hN hY hmle ?_)) (fun hm => br_t rfl ?_)
      · obtain ⟨s, b1, b2, b3⟩ := hB
        have hin := ws_in1 z3 hm
        have hsc := ws_sc_le al c b z'
        refine ws_offer (k := ws_cnt al c b f) (s := s) (by omega) (by omega) b1 b2 (fun b14 b15 s' t1 t2 t3 t4 => ?_)
        have e1 : ws_cnt al c b (z' + 1) = ws_cnt al c b f + 1 := by rw [ws_cnt_s, hcz.1, hin]
        refine ws_fb65 hn ha hL z2 (by omega) hN (fun b8 b9 b10 hN' => ?_)
        rw [← e1]
        refine nx (z' + 1) (by omega) (by omega) b8 b9 b10 b14 b15 hN' ⟨s', ?_, ?_, fun _ => ?_⟩
        · rw [e1]
          exact t1
        · rw [e1]
          exact t2
        · rw [ws_M_s, ws_B_s, hcz.1, hcz.2.1, hcz.2.2]
          have weq : (ws_cnt al c b f = 0 ∨ s 0 < ws_sc al c b z') ↔ (ws_cnt al c b f = 0 ∨ ws_M al c b f < ws_sc al c b z') := by
            rcases Nat.eq_zero_or_pos (ws_cnt al c b f) with w | w
            · exact ⟨fun _ => Or.inl w, fun _ => Or.inl w⟩
            · rw [(b3 w).1]
          by_cases w : ws_cnt al c b f = 0 ∨ ws_M al c b f < ws_sc al c b z'
          · rw [if_pos ⟨hin, w⟩, if_pos ⟨hin, w⟩]
            exact t3 (weq.mpr w)
          · rw [if_neg (fun u => w u.2), if_neg (fun u => w u.2)]
            have h0 : 0 < ws_cnt al c b f := by omega
            obtain ⟨t5, t6⟩ := t4 (fun u => w (weq.mp u))
            exact ⟨t5.trans (b3 h0).1, t6.trans (b3 h0).2⟩
      · obtain ⟨e1, e2⟩ := ws_BS_skip (z := z' + 1) (by omega) (fun d h1 h2 => by
          by_cases w : d = z'
          · rw [w]
            exact ws_in0 (fun u => hm u.2)
          · exact hno d h1 (by omega) (by omega)) hB
        refine ws_fb65 hn ha hL z2 (by omega) hN (fun b8 b9 b10 hN' => ?_)
        rw [← e1]
        exact nx (z' + 1) (by omega) (by omega) b8 b9 b10 _ _ hN' e2
theorem ws_ranked {post : Int32 → St1 → Prop} (hn : n ≤ 8) (ha : al < 2 ^ n) (hI : ws_I m q b a6 a7) (hc : ∀ d t, c d t ≤ 7) (h3 : ∀ d, d < n → ∀ w, w < 8 → a3 (8 * d + w) = nI (ws_sp (c d) w)) (h4 : ∀ d, d < n → a4 d = nI (c d 0 + c d 1)) (hL : ∀ t, t < 2 → ws_LS al c t n a1 a2 (E t) (P t))
    (H : ∀ gN gF b8 b9 b10 b11 b12 b13 b14 b15, post (ws_ans (ws_cnt al c b 8) (ws_B al c b 8)) (nI n, nI al, nI m, gN, gF, a1, a2, a3, a4, a5, a6, a7, b8, b9, b10, b11, b12, b13, b14, b15)) : wpX_ranked post (nI n, nI al, nI m, fN, fF, a1, a2, a3, a4, a5, a6, a7, a8, a9, a10, a11, a12, a13, a14, a15) 0 := by
  refine br_f (by decide) (br_t (by decide) (ws_findBest hn ha hI hc h3 h4 hL (fun gN b8 b9 b10 b11 b12 b13 b14 b15 hB => ?_)))
  obtain ⟨s, b1, b2, b3⟩ := hB
  have hc8 := ws_cnt_le al c b 8
  have h := H gN (nI (ws_cnt al c b 8)) b8 b9 b10 b11 b12 b13 b14 b15
  refine pk_le (ws_cnt al c b 8) 0 (fun z => ?_) (fun z => ⟨pk_in 0 10 (by omega), ?_⟩)
  · have e : ws_ans (ws_cnt al c b 8) (ws_B al c b 8) = -2 := if_pos (by omega)
    rw [e] at h
    exact h
  · rw [ws_ansP z] at h
    rw [sb_cl0, (b3 z).2]
    exact h
theorem ws_rankedScore {post : Int32 → St1 → Prop} (hn : n ≤ 8) (ha : al < 2 ^ n) (hI : ws_I m q b a6 a7) (hc : ∀ d t, c d t ≤ 7) (h3 : ∀ d, d < n → ∀ w, w < 8 → a3 (8 * d + w) = nI (ws_sp (c d) w)) (h4 : ∀ d, d < n → a4 d = nI (c d 0 + c d 1)) (hL : ∀ t, t < 2 → ws_LS al c t n a1 a2 (E t) (P t))
    (H : ∀ gN gF b8 b9 b10 b11 b12 b13 b14 b15, post (ws_ans (ws_cnt al c b 8) (ws_M al c b 8)) (nI n, nI al, nI m, gN, gF, a1, a2, a3, a4, a5, a6, a7, b8, b9, b10, b11, b12, b13, b14, b15)) : wpX_rankedScore post (nI n, nI al, nI m, fN, fF, a1, a2, a3, a4, a5, a6, a7, a8, a9, a10, a11, a12, a13, a14, a15) 0 := by
  refine br_f (by decide) (br_t (by decide) (ws_findBest hn ha hI hc h3 h4 hL (fun gN b8 b9 b10 b11 b12 b13 b14 b15 hB => ?_)))
  obtain ⟨s, b1, b2, b3⟩ := hB
  have hc8 := ws_cnt_le al c b 8
  have h := H gN (nI (ws_cnt al c b 8)) b8 b9 b10 b11 b12 b13 b14 b15
  refine pk_le (ws_cnt al c b 8) 0 (fun z => ?_) (fun z => ⟨pk_in 0 10 (by omega), ?_⟩)
  · have e : ws_ans (ws_cnt al c b 8) (ws_M al c b 8) = -2 := if_pos (by omega)
    rw [e] at h
    exact h
  · rw [ws_ansP z] at h
    rw [sb_cl0, (b1 0 z).1, (b3 z).1]
    exact h
theorem ws_isWord {post : Int32 → Prop} {w : Nat} (hw : w < 8) (h : post 1) : wpX_isWord post () (nI w) := br_f (nI_pos (by omega)) (pk_le 8 w (fun z => absurd z (by omega)) (fun _ => h))
theorem ws_spread {post : Int32 → Prop} {t : Nat} (hn : n ≤ 8) (ha : al < 2 ^ n) (ht : t < 2) (hL : ∀ t, t < 2 → ws_LS al c t n a1 a2 (E t) (P t)) (h : post (nI (ws_spr al c t))) : wpX_spread post (fA, nI al, fI, fN, fF, a1, a2, a3, a4, a5, a6, a7, a8, a9, a10, a11, a12, a13, a14, a15) (nI (5 * t + 1)) := by
  unfold wpX_spread
  exact ws_isWord (by omega) (br_f (by decide) (ws_spreadOf hn ha ht (hL t ht) h))
end
end
section
/-! ===== the methods that change the object ===== -/
theorem ws_sp_ne {x : Nat → Nat} {t v w : Nat} (ht : t < 2) (h : w ≠ 5 * t + 1) : ws_sp (fun s => if s = t then v else x s) w = ws_sp x w := by
  unfold ws_sp
  rcases ws_t2 ht with rfl | rfl
  · rw [if_neg (show ¬ w = 1 by omega), if_neg (show ¬ w = 1 by omega)]
    rfl
  · by_cases e : w = 1
    · rw [if_pos e, if_pos e]
      rfl
    · rw [if_neg e, if_neg e, if_neg (show ¬ w = 6 by omega), if_neg (show ¬ w = 6 by omega)]
theorem ws_g_eq {al al' : Nat} {c c' : Nat → Nat → Nat} {t d : Nat} (hb : ws_b al' d = ws_b al d) (hc : c' d t = c d t) : ws_g al' c' t d = ws_g al c t d := by
  unfold ws_g
  rw [hb, hc]
theorem ws_LS_clr {al n v : Nat} {c : Nat → Nat → Nat} {t e : Nat} {a1 a2 : Nat → Int32} {ps : Nat → Nat} (hn : n ≤ 8) (ha : al < 2 ^ n) (hv : v < 8) (hL : ws_LS al c t n a1 a2 e ps) : ws_LS (ws_clr al v) c t n a1 a2 e ps := by
  refine ws_LS_c hL (fun d _ => rfl) (fun d hd hg => ?_)
  have h := ws_andb v hv al (ws_p8 hn ha) d (by omega)
  by_cases e : d = v
  · rw [if_pos e] at h
    exact ws_g0b h
  · rw [if_neg e] at h
    rw [ws_g_eq h rfl]
    exact hg
section
variable {fA fL fI fN fF : Int32} {a1 a2 a3 a4 a5 a6 a7 a8 a9 a10 a11 a12 a13 a14 a15 : Nat → Int32}
variable {n al m : Nat} {c : Nat → Nat → Nat} {q b x : Nat → Nat} {t v : Nat}
theorem ws_write {post : Int32 → St1 → Prop} (ht : t < 2) (hv : v ≤ 7) (hx : ∀ t, x t ≤ 7) (h5 : ∀ w, w < 8 → a5 w = nI (ws_sp x w)) (H : ∀ (b5 : Nat → Int32) (y : Nat → Nat), y = (fun s => if s = t then v else x s) → (∀ s, y s ≤ 7) → (∀ w, w < 8 → b5 w = nI (ws_sp y w)) → post (nI (y 0 + y 1)) (fA, fL, fI, fN, fF, a1, a2, a3, a4, b5, a6, a7, a8, a9, a10, a11, a12, a13, a14, a15)) : wpX_write post (fA, fL, fI, fN, fF, a1, a2, a3, a4, a5, a6, a7, a8, a9, a10, a11, a12, a13, a14, a15) (nI (5 * t + 1)) (nI v) := by
  have hy : ∀ s, (fun s => if s = t then v else x s) s ≤ 7 := by
    intro s
    dsimp only
    have := hx s
    split <;> omega
  have hb : ∀ w, w < 8 → upd a5 (5 * t + 1) (nI v) w = nI (ws_sp (fun s => if s = t then v else x s) w) := by
    intro w hw
    by_cases e : w = 5 * t + 1
    · subst e
      rw [pk_us, ws_sp_t ht, if_pos rfl]
    · rw [pk_un e, h5 w hw, ws_sp_ne ht e]
  unfold wpX_write
  exact ws_isWord (by omega) (br_f (by decide) (br_f (nI_pos (by omega)) (pk_le v 7 (fun _ => ⟨pk_in (5 * t + 1) 8 (by omega), nm_r (e' := upd a5 (5 * t + 1) (nI v)) (by rw [nI_clamp (by omega)]) (ws_draftLength hy hb (H _ _ rfl hy hb))⟩) (fun z => absurd z (by omega)))))
theorem ws_add {post : Int32 → St1 → Prop} (hn : n < 8) (ha : al < 2 ^ n) (hc : ∀ d t, c d t ≤ 7) (hx : ∀ t, x t ≤ 7) (h3 : ∀ d, d < n → ∀ w, w < 8 → a3 (8 * d + w) = nI (ws_sp (c d) w)) (h4 : ∀ d, d < n → a4 d = nI (c d 0 + c d 1)) (h5 : ∀ w, w < 8 → a5 w = nI (ws_sp x w)) (hL : ∀ t, t < 2 → ∃ e ps, ws_LS al c t n a1 a2 e ps)
    (H : ∀ (b1 b2 b3 b4 : Nat → Int32) (c' : Nat → Nat → Nat), c' = (fun d => if d = n then x else c d) → (∀ d t, c' d t ≤ 7) → (∀ d, d < n + 1 → ∀ w, w < 8 → b3 (8 * d + w) = nI (ws_sp (c' d) w)) → (∀ d, d < n + 1 → b4 d = nI (c' d 0 + c' d 1)) → (∀ t, t < 2 → ∃ e ps, ws_LS (al + 2 ^ n) c' t (n + 1) b1 b2 e ps) → post (nI n) (nI (n + 1), nI (al + 2 ^ n), fI, fN, fF, b1, b2, b3, b4, a5, a6, a7, a8, a9, a10, a11, a12, a13, a14, a15)) : wpX_add post (nI n, nI al, fI, fN, fF, a1, a2, a3, a4, a5, a6, a7, a8, a9, a10, a11, a12, a13, a14, a15) := by
  obtain ⟨c', hc'⟩ : ∃ c' : Nat → Nat → Nat, c' = (fun d => if d = n then x else c d) := ⟨_, rfl⟩
  have en : c' n = x := by
    rw [hc']
    exact if_pos rfl
  have eo : ∀ d, d ≠ n → c' d = c d := by
    intro d hd
    rw [hc']
    exact if_neg hd
  have hc7 : ∀ d t, c' d t ≤ 7 := by
    intro d t
    by_cases e : d = n
    · rw [e, en]
      exact hx t
    · rw [eo d e]
      exact hc d t
  have h256 := ws_p8 (by omega) ha
  refine pk_eq n 24 (fun z => absurd z (by omega)) (fun _ => ?_)
  refine pk_loop (σ := Nat → Int32) (fun k i s => wX_add_13 post (nI n) (nI al) fI fN fF k (nI i) a1 a2 s a4 a5 a6 a7 a8 a9 a10 a11 a12 a13 a14 a15) (fun i s => (∀ j, j < 8 * n → s j = a3 j) ∧ (∀ w, w < i → s (8 * n + w) = a5 w)) 8 0 a3 (by omega) ⟨fun _ _ => rfl, fun w hw => absurd hw (by omega)⟩ ?_ ?_
  · rintro k s ⟨s1, s2⟩
    have hb3 : ∀ d, d < n + 1 → ∀ w, w < 8 → s (8 * d + w) = nI (ws_sp (c' d) w) := by
      intro d hd w hw
      by_cases e : d = n
      · rw [e, en, s2 w hw, h5 w hw]
      · rw [eo d e, s1 _ (by omega), h3 d (by omega) w hw]
    refine pk_le 8 8 (fun _ => ws_draftLength hx h5 ⟨pk_in n 24 (by omega), nm_r (e' := upd a4 n (nI (x 0 + x 1))) (by rw [nI_clamp (by omega)]) (ws_index (al := al + 2 ^ n) (c := c') hn hc7 (hb3 n (by omega)) (fun t ht => ?_) (fun b1 b2 hL2 => nm_r (ws_or n hn al h256 ha) (nm_r (nI_1 n) ?_)))⟩) (fun z => absurd z (by omega))
    · obtain ⟨e, ps, hl⟩ := hL t ht
      refine ⟨e, ps, ws_LS_c hl (fun d hd => by rw [eo d (by omega)]) (fun d hd hg => ?_)⟩
      have hb := ws_orb n hn al h256 ha d (by omega)
      rw [if_neg (by omega)] at hb
      rw [ws_g_eq hb (by rw [eo d (by omega)])]
      exact hg
    · rw [nI_pred]
      refine H b1 b2 s (upd a4 n (nI (x 0 + x 1))) c' hc' hc7 hb3 (fun d hd => ?_) hL2
      by_cases e : d = n
      · rw [e, pk_us, en]
      · rw [pk_un e, eo d e]
        exact h4 d (by omega)
  · rintro k i s hi ⟨s1, s2⟩ hw
    refine pk_le 8 i (fun z => absurd z (by omega)) (fun _ => ⟨pk_in i 8 hi, pk_in (8 * n + i) 192 (by omega) (ws_ix8 _ _), nm_r (e' := upd s (8 * n + i) (a5 i)) (by rw [ws_ix8c (by omega), nI_clamp (by omega)]) (nm_r (nI_1 i) (hw _ ⟨fun j hj => ?_, fun w hw => ?_⟩))⟩)
    · rw [pk_un (by omega)]
      exact s1 j hj
    · by_cases e : w = i
      · rw [e, pk_us]
      · rw [pk_un (by omega)]
        exact s2 w (by omega)
theorem ws_delete {post : Int32 → St1 → Prop} (hn : n ≤ 8) (ha : al < 2 ^ n) (hv : v < 8) (h0 : ws_b al v = 0 → post (-1) (nI n, nI al, fI, fN, fF, a1, a2, a3, a4, a5, a6, a7, a8, a9, a10, a11, a12, a13, a14, a15)) (h1 : ws_b al v = 1 → post (nI (ws_all (ws_clr al v))) (nI n, nI (ws_clr al v), fI, fN, fF, a1, a2, a3, a4, a5, a6, a7, a8, a9, a10, a11, a12, a13, a14, a15)) : wpX_delete post (nI n, nI al, fI, fN, fF, a1, a2, a3, a4, a5, a6, a7, a8, a9, a10, a11, a12, a13, a14, a15) (nI v) := by
  have hle := ws_clr_le al v
  unfold wpX_delete
  exact ws_isLive hn ha hv (fun z => br_f (by decide) (nm_r (ws_and v hv al (ws_p8 hn ha)) (ws_liveCount hn (by omega) (h1 z)))) (fun z => br_t rfl (h0 z))
theorem ws_tidy {post : Int32 → St1 → Prop} (hn : n ≤ 8) (ha : al < 2 ^ n) (hc : ∀ d t, c d t ≤ 7) (h3 : ∀ d, d < n → ∀ w, w < 8 → a3 (8 * d + w) = nI (ws_sp (c d) w)) (H : ∀ b1 b2, (∀ t, t < 2 → ∃ e ps, ws_LS al c t n b1 b2 e ps) → post (nI (ws_all al)) (nI n, nI al, fI, fN, fF, b1, b2, a3, a4, a5, a6, a7, a8, a9, a10, a11, a12, a13, a14, a15)) : wpX_tidy post (nI n, nI al, fI, fN, fF, a1, a2, a3, a4, a5, a6, a7, a8, a9, a10, a11, a12, a13, a14, a15) := by
  refine pk_loop (σ := Nat → Int32) (fun k i s => wX_tidy_2 post (nI n) (nI al) fI fN fF k (nI i) a1 s a3 a4 a5 a6 a7 a8 a9 a10 a11 a12 a13 a14 a15) (fun i s => ∀ w, w < i → s w = nI 0) 8 0 a2 (by omega) (fun w hw => absurd hw (by omega)) ?_ ?_
  · intro k s hs
    refine pk_le 8 8 (fun _ => ?_) (fun z => absurd z (by omega))
    refine pk_loop (σ := (Nat → Int32) × (Nat → Int32)) (fun k i s => wX_tidy_23 post k (nI i) (nI n) (nI al) fI fN fF s.1 s.2 a3 a4 a5 a6 a7 a8 a9 a10 a11 a12 a13 a14 a15) (fun i s => ∀ t, t < 2 → ∃ e ps, ws_LS al c t i s.1 s.2 e ps) n 0 (a1, s) (by omega) (fun t ht => ⟨0, fun _ => 0, hs _ (by omega), Nat.le_refl 0, rfl, Nat.le_refl 0, fun k hk => absurd hk (by omega), fun d _ hd => absurd hd (by omega)⟩) ?_ ?_
    · rintro k ⟨b1, b2⟩ hL
      exact pk_le n n (fun _ => ws_liveCount hn ha (H b1 b2 hL)) (fun z => absurd z (by omega))
    · rintro k i ⟨b1, b2⟩ hi hL hw
      dsimp only at hL ⊢
      refine pk_le n i (fun z => absurd z (by omega)) (fun _ => ws_isLive hn ha (by omega) (fun z => br_f (by decide) (ws_index (al := al) (c := c) (by omega) hc (h3 i hi) hL (fun d1 d2 hL2 => nm_r (nI_1 i) (hw (d1, d2) hL2)))) (fun z => br_t rfl (nm_r (nI_1 i) (hw (b1, b2) (fun t ht => ?_)))))
      obtain ⟨e, ps, hl⟩ := hL t ht
      exact ⟨e, ps, ws_LS_skip hl (ws_g0b z)⟩
  · intro k i s hi hs hw
    refine pk_le 8 i (fun z => absurd z (by omega)) (fun _ => ⟨pk_in i 8 hi, nm_r (e' := upd s i 0) (by rw [nI_clamp (by omega)]) (nm_r (nI_1 i) (hw _ (fun w hw => ?_)))⟩)
    by_cases e : w = i
    · rw [e]
      exact pk_us
    · exact (pk_un e).trans (hs w (by omega))
theorem ws_item {post : Int32 → St1 → Prop} (ht : t < 2) (hv : v < 20) (hI : ws_I m q b a6 a7) (h10 : v = 10 → post (-2) (fA, fL, nI m, fN, fF, a1, a2, a3, a4, a5, a6, a7, a8, a9, a10, a11, a12, a13, a14, a15)) (H : v ≠ 10 → ∀ m' q' b6 b7, ws_I m' q' (fun s => if s = t then v else b s) b6 b7 → post (nI m') (fA, fL, nI m', fN, fF, a1, a2, a3, a4, a5, b6, b7, a8, a9, a10, a11, a12, a13, a14, a15)) : wpX_item post (fA, fL, nI m, fN, fF, a1, a2, a3, a4, a5, a6, a7, a8, a9, a10, a11, a12, a13, a14, a15) (nI (5 * t + 1)) (nI v) := by
  have hI' := hI
  obtain ⟨i1, i2, i3, i4⟩ := hI
  unfold wpX_item
  refine ws_isWord (by omega) (br_f (by decide) (br_f (nI_pos (by omega)) (pk_lt 19 v (fun z => absurd z (by omega)) (fun _ => pk_eq v 10 (fun z => h10 z) (fun z => ?_)))))
  refine ws_place hI' ht (fun k hk hq => br_t (nI_pos' (by omega)) ?_) (fun hq => br_f (by decide) ?_)
  · have hin : vp_in (nI k) 5 := pk_in k 5 (by omega)
    refine ⟨hin, nm_r (e' := upd a6 k (nI (5 * t + 1))) (by rw [nI_clamp (by omega)]) ⟨hin, nm_r (e' := upd a7 k (nI v)) (by rw [nI_clamp (by omega)]) (H z m q _ _ ⟨i1, fun j hj => ?_, fun s hs hz => ?_, i4⟩)⟩⟩
    · dsimp only
      obtain ⟨j1, j2, j3, j4, j5⟩ := i2 j hj
      by_cases e : j = k
      · subst e
        rw [pk_us, pk_us, hq, if_pos rfl]
        exact ⟨ht, rfl, rfl, hv, z⟩
      · have hne : q j ≠ t := fun w => e (i4 j k hj hk (w.trans hq.symm))
        rw [pk_un e, pk_un e, if_neg hne]
        exact ⟨j1, j2, j3, j4, j5⟩
    · dsimp only
      have hst : ¬ s = t := fun w => hz k hk (hq.trans w.symm)
      rw [if_neg hst]
      exact i3 s hs hz
  · have hm : m < 2 := by
      rcases Nat.lt_or_ge m 2 with w | w
      · exact w
      · have a0 := (i2 0 (by omega)).1
        have a1 := (i2 1 (by omega)).1
        have b0 := hq 0 (by omega)
        have b1 := hq 1 (by omega)
        have h01 : q 0 ≠ q 1 := fun w => absurd (i4 0 1 (by omega) (by omega) w) (by decide)
        omega
    have hin : vp_in (nI m) 5 := pk_in m 5 (by omega)
    refine pk_eq m 5 (fun w => absurd w (by omega)) (fun _ => nm_r (nI_1 m) ?_)
    refine ⟨hin, nm_r (e' := upd a6 m (nI (5 * t + 1))) (by rw [nI_clamp (by omega)]) ⟨hin, nm_r (e' := upd a7 m (nI v)) (by rw [nI_clamp (by omega)]) (H z (m + 1) (fun k => if k = m then t else q k) _ _ ⟨by omega, fun j hj => ?_, fun s hs hz => ?_, fun i j hi hj hij => ?_⟩)⟩⟩
    · dsimp only
      by_cases e : j = m
      · subst e
        rw [pk_us, pk_us, if_pos rfl, if_pos rfl]
        exact ⟨ht, rfl, rfl, hv, z⟩
      · obtain ⟨j1, j2, j3, j4, j5⟩ := i2 j (by omega)
        rw [pk_un e, pk_un e, if_neg e, if_neg (hq j (by omega))]
        exact ⟨j1, j2, j3, j4, j5⟩
    · dsimp only at hz ⊢
      have h1 := hz m (by omega)
      rw [if_pos rfl] at h1
      have hst : ¬ s = t := fun w => h1 w.symm
      rw [if_neg hst]
      refine i3 s hs (fun k hk => ?_)
      have h2 := hz k (by omega)
      rwa [if_neg (by omega)] at h2
    · dsimp only at hij
      by_cases ei : i = m
      · by_cases ej : j = m
        · omega
        · rw [if_pos ei, if_neg ej] at hij
          exact absurd hij.symm (hq j (by omega))
      · by_cases ej : j = m
        · rw [if_neg ei, if_pos ej] at hij
          exact absurd hij (hq i (by omega))
        · rw [if_neg ei, if_neg ej] at hij
          exact i4 i j (by omega) (by omega) hij
theorem ws_drop {post : Int32 → St1 → Prop} (ht : t < 2) (hI : ws_I m q b a6 a7) (h0 : b t = 31 → post (-1) (fA, fL, nI m, fN, fF, a1, a2, a3, a4, a5, a6, a7, a8, a9, a10, a11, a12, a13, a14, a15)) (H : b t < 20 → ∀ m' q' b6 b7, ws_I m' q' (fun s => if s = t then 31 else b s) b6 b7 → post (nI m') (fA, fL, nI m', fN, fF, a1, a2, a3, a4, a5, b6, b7, a8, a9, a10, a11, a12, a13, a14, a15)) : wpX_drop post (fA, fL, nI m, fN, fF, a1, a2, a3, a4, a5, a6, a7, a8, a9, a10, a11, a12, a13, a14, a15) (nI (5 * t + 1)) := by
  have hI' := hI
  obtain ⟨i1, i2, i3, i4⟩ := hI
  unfold wpX_drop
  refine ws_place hI' ht (fun k hk hq => br_t (nI_pos' (by omega)) (nm_r (nI_1 k) ?_)) (fun hq => br_f (by decide) (h0 (i3 t ht hq)))
  have hbt : b t < 20 := by
    rw [← hq]
    exact (i2 k hk).2.2.2.1
  refine pk_loop (σ := (Nat → Int32) × (Nat → Int32)) (fun f i s => wX_drop_16 post fA fL (nI m) fN fF f (nI i) a1 a2 a3 a4 a5 s.1 s.2 a8 a9 a10 a11 a12 a13 a14 a15) (fun i s => k + 1 ≤ i ∧ (∀ l, l < k → s.1 l = a6 l ∧ s.2 l = a7 l) ∧ (∀ l, k ≤ l → l + 1 < i → s.1 l = a6 (l + 1) ∧ s.2 l = a7 (l + 1)) ∧ (∀ l, i ≤ l → s.1 l = a6 l ∧ s.2 l = a7 l)) m (k + 1) (a6, a7) (by omega) ⟨by omega, fun _ _ => ⟨rfl, rfl⟩, fun l h1 h2 => absurd h2 (by omega), fun _ _ => ⟨rfl, rfl⟩⟩ ?_ ?_
  · rintro f ⟨s6, s7⟩ ⟨_, s1, s2, s3⟩
    dsimp only at s1 s2 s3 ⊢
    refine pk_le m m (fun _ => nm_r (e' := nI (m - 1)) (ws_pr (by omega)) (H hbt (m - 1) (fun l => if l < k then q l else q (l + 1)) s6 s7 ⟨by omega, fun j hj => ?_, fun s hs hz => ?_, fun i j hi hj hij => ?_⟩)) (fun z => absurd z (by omega))
    · dsimp only
      by_cases e : j < k
      · have hne : q j ≠ t := fun w => absurd (i4 j k (by omega) hk (w.trans hq.symm)) (by omega)
        rw [if_pos e, (s1 j e).1, (s1 j e).2, if_neg hne]
        exact i2 j (by omega)
      · have hne : q (j + 1) ≠ t := fun w => absurd (i4 (j + 1) k (by omega) hk (w.trans hq.symm)) (by omega)
        rw [if_neg e, (s2 j (by omega) (by omega)).1, (s2 j (by omega) (by omega)).2, if_neg hne]
        exact i2 (j + 1) (by omega)
    · dsimp only at hz ⊢
      by_cases e : s = t
      · rw [if_pos e]
      · rw [if_neg e]
        refine i3 s hs (fun j hj => ?_)
        by_cases e1 : j < k
        · have := hz j (by omega)
          rwa [if_pos e1] at this
        · by_cases e2 : j = k
          · subst e2
            rw [hq]
            exact fun w => e w.symm
          · have := hz (j - 1) (by omega)
            rwa [if_neg (by omega), show j - 1 + 1 = j by omega] at this
    · dsimp only at hij
      by_cases ei : i < k
      · by_cases ej : j < k
        · rw [if_pos ei, if_pos ej] at hij
          exact i4 i j (by omega) (by omega) hij
        · rw [if_pos ei, if_neg ej] at hij
          have := i4 i (j + 1) (by omega) (by omega) hij
          omega
      · by_cases ej : j < k
        · rw [if_neg ei, if_pos ej] at hij
          have := i4 (i + 1) j (by omega) (by omega) hij
          omega
        · rw [if_neg ei, if_neg ej] at hij
          have := i4 (i + 1) (j + 1) (by omega) (by omega) hij
          omega
  · rintro f i ⟨s6, s7⟩ hi ⟨s0, s1, s2, s3⟩ hw
    dsimp only at s1 s2 s3 ⊢
    have hin : vp_in (nI i) 5 := pk_in i 5 (by omega)
    have hpn : vp_in (nI (i - 1)) 5 := pk_in (i - 1) 5 (by omega)
    have ci : (nI i).toNatClampNeg = i := nI_clamp (by omega)
    have cp : (nI (i - 1)).toNatClampNeg = i - 1 := nI_clamp (by omega)
    refine pk_le m i (fun z => absurd z (by omega)) (fun _ => ?_)
    rw [ws_pr (by omega), ci, cp]
    refine ⟨hin, hpn, nm_e ⟨hin, hpn, nm_e (nm_r (nI_1 i) (hw (_, _) ⟨by omega, fun l hl => ?_, fun l h1 h2 => ?_, fun l hl => ?_⟩))⟩⟩
    · exact ⟨(pk_un (by omega)).trans (s1 l hl).1, (pk_un (by omega)).trans (s1 l hl).2⟩
    · by_cases e : l = i - 1
      · subst e
        have h3 := s3 i (by omega)
        have e2 : i - 1 + 1 = i := by omega
        rw [e2]
        exact ⟨pk_us.trans h3.1, pk_us.trans h3.2⟩
      · exact ⟨(pk_un e).trans (s2 l h1 (by omega)).1, (pk_un e).trans (s2 l h1 (by omega)).2⟩
    · exact ⟨(pk_un (by omega)).trans (s3 l (by omega)).1, (pk_un (by omega)).trans (s3 l (by omega)).2⟩
end
end
section
/-! ===== the law's own functions: part, spread, matches, score ===== -/
/-- the law's long holds the counts -/
def ws_D (D : Int64) (c : Nat → Nat → Nat) : Prop := ∀ d, d < 8 → ∀ t, t < 2 → ((D >>> (((6 * nI d) + (3 * nI t)).toInt64 &&& 63)).toInt32) &&& 7 = nI (c d t)
theorem ws_D0 : ws_D 0 (fun _ _ => 0) := by
  have h : ∀ d, d < 8 → ∀ t, t < 2 → (((0 : Int64) >>> (((6 * nI d) + (3 * nI t)).toInt64 &&& 63)).toInt32) &&& 7 = nI 0 := by decide +kernel
  exact h
theorem ws_orp (A B s : Int64) : ((A ||| B) >>> s).toInt32 &&& 7 = (((A >>> s).toInt32) &&& 7) ||| (((B >>> s).toInt32) &&& 7) := by
  apply Int32.toBitVec_inj.mp
  rw [Int32.toBitVec_and, Int32.toBitVec_or, Int32.toBitVec_and, Int32.toBitVec_and, Int64.toBitVec_toInt32, Int64.toBitVec_toInt32, Int64.toBitVec_toInt32, Int64.toBitVec_shiftRight, Int64.toBitVec_shiftRight, Int64.toBitVec_shiftRight, Int64.toBitVec_or]
  unfold BitVec.sshiftRight'
  rw [BitVec.sshiftRight_or_distrib, BitVec.signExtend_or, BitVec.and_or_distrib_right]
theorem ws_sh : ∀ x0, x0 < 8 → ∀ x1, x1 < 8 → ∀ n, n < 8 → ∀ d, d < 8 → ((((nI (x0 + 8 * x1)).toInt64 <<< ((6 * nI n).toInt64 &&& 63)) >>> (((6 * nI d) + (3 * nI 0)).toInt64 &&& 63)).toInt32) &&& 7 = nI (if d = n then x0 else 0) ∧ ((((nI (x0 + 8 * x1)).toInt64 <<< ((6 * nI n).toInt64 &&& 63)) >>> (((6 * nI d) + (3 * nI 1)).toInt64 &&& 63)).toInt32) &&& 7 = nI (if d = n then x1 else 0) := by decide +kernel
theorem ws_o7 : ∀ x, x < 8 → nI x ||| nI 0 = nI x ∧ nI 0 ||| nI x = nI x := by decide +kernel
theorem ws_Dadd {D : Int64} {c : Nat → Nat → Nat} {x : Nat → Nat} {n : Nat} (hn : n < 8) (hc : ∀ d t, c d t ≤ 7) (hx : ∀ t, x t ≤ 7) (hz : ∀ t, c n t = 0) (hD : ws_D D c) : ws_D (D ||| ((nI (x 0 + 8 * x 1)).toInt64 <<< ((6 * nI n).toInt64 &&& 63))) (fun d => if d = n then x else c d) := by
  intro d hd t ht
  have x0 := hx 0
  have x1 := hx 1
  have hs := ws_sh (x 0) (by omega) (x 1) (by omega) n hn d hd
  have hs' : ((((nI (x 0 + 8 * x 1)).toInt64 <<< ((6 * nI n).toInt64 &&& 63)) >>> (((6 * nI d) + (3 * nI t)).toInt64 &&& 63)).toInt32) &&& 7 = nI (if d = n then x t else 0) := by
    rcases ws_t2 ht with rfl | rfl
    · exact hs.1
    · exact hs.2
  rw [ws_orp, hs', hD d hd t ht]
  dsimp only
  by_cases e : d = n
  · subst e
    rw [if_pos rfl, if_pos rfl, hz t]
    have := hx t
    exact (ws_o7 (x t) (by omega)).2
  · rw [if_neg e, if_neg e]
    have := hc d t
    exact (ws_o7 (c d t) (by omega)).1
theorem ws_part {post : Int32 → Prop} {D : Int64} {c : Nat → Nat → Nat} {d t : Nat} (hD : ws_D D c) (hd : d < 8) (ht : t < 2) (h : post (nI (c d t))) : wpL_part post () D (nI d) (nI t) := by
  unfold wpL_part
  rw [hD d hd t ht]
  exact h
theorem ws_Lspread {post : Int32 → Prop} {D : Int64} {c : Nat → Nat → Nat} {al t : Nat} (ha : al < 256) (hc : ∀ d t, c d t ≤ 7) (hD : ws_D D c) (ht : t < 2) (h : post (nI (ws_spr al c t))) : wpL_spread post () D (nI al) (nI t) := by
  refine pk_loop (σ := Int32) (fun k i s => wL_spread_6 post D (nI al) (nI t) k s (nI i)) (fun i s => s = nI (ws_sum (ws_g al c t) i)) 8 0 0 (by omega) rfl ?_ ?_
  · intro k s hs
    refine pk_le 8 8 (fun _ => ?_) (fun z => absurd z (by omega))
    rw [hs]
    exact h
  · intro k i s hi hs hw
    have hci := hc i t
    have nx : ∀ x : Nat, x = ws_g al c t i → wL_spread_6 post D (nI al) (nI t) k (s + nI x) (nI i + 1) := by
      intro x hx
      rw [nI_1, hs, nI_add, hx]
      exact hw _ rfl
    refine pk_le 8 i (fun z => absurd z (by omega)) (fun _ => ?_)
    rw [ws_bit al ha i hi]
    rcases ws_b01 al i with e | e
    · rw [e]
      exact br_f (by decide) (nm_e (nm_e (nx 0 (ws_g0b e).symm)))
    · rw [e]
      exact br_t rfl (ws_part hD hi ht (pk_le (c i t) 0 (fun z => nm_e (nm_e (nx 0 (ws_g0c (by omega)).symm))) (fun z => nm_e (nm_e (nx 1 (ws_g1 e z).symm)))))
/-- the law's items: five bits a word -/
def ws_T (it : Int32) (b : Nat → Nat) : Prop := ∀ t, t < 2 → (it >>> ((5 * nI t) &&& 31)) &&& 31 = nI (b t)
theorem ws_Tx : ∀ x, x < 32 → ∀ y, y < 32 → (nI (x + 32 * y) >>> ((5 * nI 0) &&& 31)) &&& 31 = nI x ∧ (nI (x + 32 * y) >>> ((5 * nI 1) &&& 31)) &&& 31 = nI y := by decide +kernel
theorem ws_Tb {b : Nat → Nat} (hb : ∀ t, b t < 32) : ws_T (nI (b 0 + 32 * b 1)) b := by
  intro t ht
  have h := ws_Tx (b 0) (hb 0) (b 1) (hb 1)
  rcases ws_t2 ht with rfl | rfl
  · exact h.1
  · exact h.2
theorem ws_Lmatches {post : Int32 → Prop} {D : Int64} {it : Int32} {c : Nat → Nat → Nat} {b : Nat → Nat} {d : Nat} (hc : ∀ d t, c d t ≤ 7) (hD : ws_D D c) (hb : ∀ t, b t < 32) (hT : ws_T it b) (hd : d < 8) (h1 : ws_mt c b d → post 1) (h0 : ¬ ws_mt c b d → post 0) : wpL_matches post () D it (nI d) := by
  refine pk_loop (σ := Nat) (fun k i s => wL_matches_6 post D it (nI d) k (nI s) (nI i)) (fun i s => s ≤ 1 ∧ (∀ t, t < i → ¬ ws_bad c b d t) ∧ (s = 1 ↔ ∃ t, t < i ∧ ws_so c b d t)) 2 0 0 (by omega) ⟨by omega, fun k hk => absurd hk (by omega), ⟨fun z => absurd z (by omega), fun ⟨k, hk, _⟩ => absurd hk (by omega)⟩⟩ ?_ ?_
  · rintro k s ⟨s1, s2, s3⟩
    refine pk_le 2 2 (fun _ => ⟨ws_nbN s1, ?_⟩) (fun z => absurd z (by omega))
    by_cases e : s = 1
    · subst e
      exact h1 ⟨s2, s3.mp rfl⟩
    · have e0 : s = 0 := by omega
      subst e0
      exact h0 (fun z => e (s3.mpr z.2))
  · rintro k i s hi ⟨s1, s2, s3⟩ hw
    have hcd := hc d i
    have hbi := hb i
    have nx : ∀ s', s' ≤ 1 → ¬ ws_bad c b d i → (s' = 1 ↔ (s = 1 ∨ ws_so c b d i)) → wL_matches_6 post D it (nI d) k (nI s') (nI i + 1) := by
      intro s' hs' hnb hiff
      rw [nI_1]
      refine hw s' ⟨hs', fun t ht => ?_, hiff.trans ⟨fun z => ?_, fun z => ?_⟩⟩
      · by_cases e : t = i
        · subst e
          exact hnb
        · exact s2 t (by omega)
      · rcases z with z | z
        · obtain ⟨t, ht, h⟩ := s3.mp z
          exact ⟨t, by omega, h⟩
        · exact ⟨i, by omega, z⟩
      · obtain ⟨t, ht, h⟩ := z
        by_cases e : t = i
        · subst e
          exact Or.inr h
        · exact Or.inl (s3.mpr ⟨t, by omega, h⟩)
    have no : ws_bad c b d i → post 0 := fun z => h0 (fun w => w.1 _ hi z)
    have sm : ¬ ws_bad c b d i → ¬ ws_so c b d i → wL_matches_6 post D it (nI d) k (nI s) (nI i + 1) := fun hnb hso => nx s s1 hnb ⟨fun z => Or.inl z, fun z => z.elim id (fun w => absurd w hso)⟩
    have g63 : ¬ ws_bad c b d i → wL_matches_63 post (wL_matches_6 post D it (nI d) k) D it (nI d) (nI s) (nI i) (nI (b i)) (nI (c d i)) := by
      intro hnb
      refine pk_le (b i) 0 (fun z => nm_e (sm hnb (fun w => ?_))) (fun z => pk_le 20 (b i) (fun z2 => nm_e (sm hnb (fun w => ?_))) (fun z2 => pk_le (c d i) 0 (fun z3 => nm_e (sm hnb (fun w => ?_))) (fun z3 => nm_e (nx 1 (by omega) hnb ⟨fun _ => Or.inr ⟨z, z2, z3⟩, fun _ => rfl⟩))))
      · unfold ws_so at w
        omega
      · unfold ws_so at w
        omega
      · unfold ws_so at w
        omega
    have g42 : ¬ (b i = 0 ∧ 0 < c d i) → wL_matches_42 post (wL_matches_6 post D it (nI d) k) D it (nI d) (nI s) (nI i) (nI (b i)) (nI (c d i)) := by
      intro hnb
      refine pk_le (b i) 10 (fun z => g63 (fun w => ?_)) (fun z => pk_le 20 (b i) (fun z2 => g63 (fun w => ?_)) (fun z2 => pk_eq (c d i) 0 (fun z3 => no (Or.inr ⟨z, z2, z3⟩)) (fun z3 => g63 (fun w => ?_))))
      · unfold ws_bad at w
        omega
      · unfold ws_bad at w
        omega
      · unfold ws_bad at w
        omega
    refine pk_le 2 i (fun z => absurd z (by omega)) (fun _ => nm_r (hT i hi) (ws_part hD hd hi (pk_eq (b i) 0 (fun z => pk_lt 0 (c d i) (fun z2 => no (Or.inl ⟨z, z2⟩)) (fun z2 => g42 (by omega))) (fun z => g42 (by omega)))))
theorem ws_Lscore {post : Int32 → Prop} {D : Int64} {it : Int32} {c : Nat → Nat → Nat} {b : Nat → Nat} {al d : Nat} (ha : al < 256) (hc : ∀ d t, c d t ≤ 7) (hD : ws_D D c) (hb : ∀ t, b t < 32) (hT : ws_T it b) (hd : d < 8) (h : post (nI (ws_sc al c b d))) : wpL_score post () D (nI al) it (nI d) := by
  have c0 := hc d 0
  have c1 := hc d 1
  unfold wpL_score
  refine ws_part (t := 0) hD hd (by decide) (ws_part (t := 1) hD hd (by decide) (nm_r (nI_add _ _) ?_))
  refine pk_loop (σ := Int32) (fun k i s => wL_score_23 post D (nI al) it (nI d) (nI (c d 0 + c d 1)) k s (nI i)) (fun i s => s = nI (ws_sum (ws_b al) i)) 8 0 0 (by omega) rfl ?_ ?_
  · intro k s hs
    subst hs
    refine pk_le 8 8 (fun _ => ?_) (fun z => absurd z (by omega))
    refine pk_loop (σ := Int32) (fun k i s => wL_score_53 post D (nI al) it (nI d) (nI (c d 0 + c d 1)) (nI (ws_all al)) k s (nI i)) (fun i s => s = nI (ws_sum (ws_tm al c b d) i)) 2 0 0 (by omega) rfl ?_ ?_
    · intro k s hs
      refine pk_le 2 2 (fun _ => ?_) (fun z => absurd z (by omega))
      have e : ws_sum (ws_tm al c b d) 2 = ws_sc al c b d := by
        show 0 + ws_tm al c b d 0 + ws_tm al c b d 1 = ws_tm al c b d 0 + ws_tm al c b d 1
        omega
      rw [hs, e]
      exact h
    · intro k i s hi hs hw
      have hci := hc d i
      have hbi := hb i
      have hsp := ws_spr_le al c i
      have zr : ws_tm al c b d i = 0 → wL_score_53 post D (nI al) it (nI d) (nI (c d 0 + c d 1)) (nI (ws_all al)) k s (nI i + 1) := by
        intro z
        rw [nI_1]
        refine hw _ ?_
        rw [hs, ws_sum_s, z, Nat.add_zero]
      refine pk_le 2 i (fun z => absurd z (by omega)) (fun _ => nm_r (hT i hi) (ws_part hD hd hi (ws_Lspread ha hc hD hi (pk_le 20 (b i) (fun z => nm_e (zr (ws_tm_z (by omega)))) (fun z => pk_le (c d i) 0 (fun z2 => nm_e (zr (ws_tm_c (by omega)))) (fun z2 => ?_))))))
      obtain ⟨q1, q2⟩ := ws_stN (c d i) (by omega) (c d 0 + c d 1) (by omega) z2
      refine ⟨by decide, ?_, by decide, q1, nm_r (e' := nI (ws_sum (ws_tm al c b d) (i + 1))) ?_ (nm_r (nI_1 i) (hw _ rfl))⟩
      · rw [nI_1]
        exact nI_ne0 (by omega) (by omega)
      · have e10 : nI (b i) - nI (b i) / 10 * 10 = nI (b i % 10) := pk_rem (d := 10) (by omega) (by omega) (by omega)
        rw [q2, ws_raN, e10, pk_mul, pk_mul, hs, nI_add, ws_sum_s, ← ws_tm_l z]
        rfl
  · intro k i s hi hs hw
    exact pk_le 8 i (fun z => absurd z (by omega)) (fun _ => nm_r (e' := nI (ws_sum (ws_b al) (i + 1))) (by rw [hs, ws_bit al ha i hi, nI_add, ws_sum_s]) (nm_r (nI_1 i) (hw _ rfl)))
end
section
/-! ===== agrees ===== -/
theorem ws_nn2 {z : Nat} (h : z < 2 ^ 31) : ¬ nI z ≤ -2 := by
  intro w
  rw [Int32.le_iff_toInt_le, nI_toInt h] at w
  have e : (-2 : Int32).toInt = -2 := by decide
  rw [e] at w
  omega
section
variable {fA fL fI fN fF : Int32} {a1 a2 a3 a4 a5 a6 a7 a8 a9 a10 a11 a12 a13 a14 a15 : Nat → Int32}
variable {n al m : Nat} {c : Nat → Nat → Nat} {q b : Nat → Nat} {E : Nat → Nat} {P : Nat → Nat → Nat}
theorem ws_ag0 {post : Int32 → St1 → Prop} {J : Int32 → Int32 → Int32 → Int32 → Int32 → Int32 → Int32 → Int32 → Int32 → (Nat → Int32) → (Nat → Int32) → (Nat → Int32) → (Nat → Int32) → (Nat → Int32) → (Nat → Int32) → (Nat → Int32) → (Nat → Int32) → (Nat → Int32) → (Nat → Int32) → (Nat → Int32) → (Nat → Int32) → (Nat → Int32) → (Nat → Int32) → (Nat → Int32) → Prop} {D : Int64} {x3 it x5 x6 x7 x8 x10 : Int32} (H : J x5 x6 x7 (x8 + 1) fA fL fI fN fF a1 a2 a3 a4 a5 a6 a7 a8 a9 a10 a11 a12 a13 a14 a15) : wL_agrees_92 post J D x3 it x5 x6 x7 x8 x10 0 fA fL fI fN fF a1 a2 a3 a4 a5 a6 a7 a8 a9 a10 a11 a12 a13 a14 a15 :=
  br_t rfl (br_t rfl (br_t rfl (nm_e H)))
theorem ws_ag1 {post : Int32 → St1 → Prop} {J : Int32 → Int32 → Int32 → Int32 → Int32 → Int32 → Int32 → Int32 → Int32 → (Nat → Int32) → (Nat → Int32) → (Nat → Int32) → (Nat → Int32) → (Nat → Int32) → (Nat → Int32) → (Nat → Int32) → (Nat → Int32) → (Nat → Int32) → (Nat → Int32) → (Nat → Int32) → (Nat → Int32) → (Nat → Int32) → (Nat → Int32) → (Nat → Int32) → Prop} {D : Int64} {x3 it x5 x6 x7 x8 x10 : Int32} (H1 : x10 ≤ x7 → J (x5 + 1) x6 x7 (x8 + 1) fA fL fI fN fF a1 a2 a3 a4 a5 a6 a7 a8 a9 a10 a11 a12 a13 a14 a15) (H2 : ¬ x10 ≤ x7 → J (x5 + 1) x8 x10 (x8 + 1) fA fL fI fN fF a1 a2 a3 a4 a5 a6 a7 a8 a9 a10 a11 a12 a13 a14 a15) : wL_agrees_92 post J D x3 it x5 x6 x7 x8 x10 1 fA fL fI fN fF a1 a2 a3 a4 a5 a6 a7 a8 a9 a10 a11 a12 a13 a14 a15 := by
  by_cases e : x10 ≤ x7
  · exact br_f (by decide) (nm_e (br_f (by decide) (br_t e (br_f (by decide) (br_t e (nm_e (H1 e)))))))
  · exact br_f (by decide) (nm_e (br_f (by decide) (br_f e (br_f (by decide) (br_f e (nm_e (H2 e)))))))
theorem ws_agrees {post : Int32 → St1 → Prop} {D : Int64} {it : Int32} (hn : n ≤ 8) (ha : al < 2 ^ n) (hI : ws_I m q b a6 a7) (hc : ∀ d t, c d t ≤ 7) (h3 : ∀ d, d < n → ∀ w, w < 8 → a3 (8 * d + w) = nI (ws_sp (c d) w)) (h4 : ∀ d, d < n → a4 d = nI (c d 0 + c d 1)) (hL : ∀ t, t < 2 → ws_LS al c t n a1 a2 (E t) (P t)) (hD : ws_D D c) (hb : ∀ t, b t < 32) (hT : ws_T it b)
    (H : ∀ gN gF b8 b9 b10 b11 b12 b13 b14 b15, post 1 (nI n, nI al, nI m, gN, gF, a1, a2, a3, a4, a5, a6, a7, b8, b9, b10, b11, b12, b13, b14, b15)) : wpL_agrees post (nI n, nI al, nI m, fN, fF, a1, a2, a3, a4, a5, a6, a7, a8, a9, a10, a11, a12, a13, a14, a15) D (nI al) it := by
  have h256 := ws_p8 hn ha
  have lp : ∃ k, wL_agrees_14 post D (nI al) it k (nI (ws_cnt al c b 0)) (ws_ans (ws_cnt al c b 0) (ws_B al c b 0)) (ws_ans (ws_cnt al c b 0) (ws_M al c b 0)) (nI 0) (nI n) (nI al) (nI m) fN fF a1 a2 a3 a4 a5 a6 a7 a8 a9 a10 a11 a12 a13 a14 a15 := by
    refine pk_loop (σ := Int32 × (Nat → Int32) × (Nat → Int32) × (Nat → Int32) × (Nat → Int32) × (Nat → Int32) × (Nat → Int32)) (fun k i s => wL_agrees_14 post D (nI al) it k (nI (ws_cnt al c b i)) (ws_ans (ws_cnt al c b i) (ws_B al c b i)) (ws_ans (ws_cnt al c b i) (ws_M al c b i)) (nI i) (nI n) (nI al) (nI m) s.1 fF a1 a2 a3 a4 a5 a6 a7 s.2.1 s.2.2.1 s.2.2.2.1 s.2.2.2.2.1 s.2.2.2.2.2.1 s.2.2.2.2.2.2 a14 a15) (fun _ _ => True) 8 0 (fN, a8, a9, a10, a11, a12, a13) (by omega) trivial ?_ ?_
    · rintro k ⟨gN, b8, b9, b10, b11, b12, b13⟩ _
      dsimp only
      refine pk_le 8 8 (fun _ => ws_matching hn ha hI hc h3 (br_t rfl (ws_ranked hn ha hI hc h3 h4 hL (fun gN gF b8 b9 b10 b11 b12 b13 b14 b15 => br_t rfl (ws_rankedScore hn ha hI hc h3 h4 hL (fun gN gF b8 b9 b10 b11 b12 b13 b14 b15 => br_t rfl ?_)))))) (fun z => absurd z (by omega))
      exact ws_spread (t := 0) hn ha (by decide) hL (ws_Lspread (t := 0) h256 hc hD (by decide) (br_t rfl (ws_spread (t := 1) hn ha (by decide) hL (ws_Lspread (t := 1) h256 hc hD (by decide) (br_t rfl (H _ _ _ _ _ _ _ _ _ _))))))
    · rintro k i ⟨gN, b8, b9, b10, b11, b12, b13⟩ hi _ hw
      dsimp only at hw ⊢
      have hci := ws_cnt_le al c b i
      have hsc := ws_sc_le al c b i
      have hM := ws_M_le al c b i
      have nx0 : ws_in al c b i = 0 → ∀ gN b8 b9 b10 b11 b12 b13, wL_agrees_14 post D (nI al) it k (nI (ws_cnt al c b i)) (ws_ans (ws_cnt al c b i) (ws_B al c b i)) (ws_ans (ws_cnt al c b i) (ws_M al c b i)) (nI i + 1) (nI n) (nI al) (nI m) gN fF a1 a2 a3 a4 a5 a6 a7 b8 b9 b10 b11 b12 b13 a14 a15 := by
        intro z gN b8 b9 b10 b11 b12 b13
        obtain ⟨e1, e2, e3⟩ := ws_skip (al := al) (c := c) (b := b) (f := i) (i + 1) (by omega) (fun d h1 h2 => by rw [show d = i by omega]; exact z)
        have h := hw (gN, b8, b9, b10, b11, b12, b13) trivial
        dsimp only at h
        rw [e1, e2, e3] at h
        rw [nI_1]
        exact h
      have nx1 : ws_in al c b i = 1 → ∀ gN b8 b9 b10 b11 b12 b13, wL_agrees_92 post (wL_agrees_14 post D (nI al) it k) D (nI al) it (nI (ws_cnt al c b i)) (ws_ans (ws_cnt al c b i) (ws_B al c b i)) (ws_ans (ws_cnt al c b i) (ws_M al c b i)) (nI i) (nI (ws_sc al c b i)) 1 (nI n) (nI al) (nI m) gN fF a1 a2 a3 a4 a5 a6 a7 b8 b9 b10 b11 b12 b13 a14 a15 := by
        intro z gN b8 b9 b10 b11 b12 b13
        have h := hw (gN, b8, b9, b10, b11, b12, b13) trivial
        dsimp only at h
        have e1 : ws_cnt al c b (i + 1) = ws_cnt al c b i + 1 := by rw [ws_cnt_s, z]
        rw [ws_ansP (by omega), ws_ansP (by omega), ws_M_s, ws_B_s, e1] at h
        refine ws_ag1 (fun e => ?_) (fun e => ?_)
        · rcases Nat.eq_zero_or_pos (ws_cnt al c b i) with w | w
          · rw [w, ws_ans0] at e
            exact absurd e (ws_nn2 (by omega))
          · rw [ws_ansP w, nI_leI (by omega) (by omega)] at e
            have ne : ¬ (ws_in al c b i = 1 ∧ (ws_cnt al c b i = 0 ∨ ws_M al c b i < ws_sc al c b i)) := by omega
            rw [if_neg ne, if_neg ne] at h
            rw [ws_ansP w, ws_ansP w, nI_1, nI_1]
            exact h
        · have po : ws_in al c b i = 1 ∧ (ws_cnt al c b i = 0 ∨ ws_M al c b i < ws_sc al c b i) := by
            refine ⟨z, ?_⟩
            rcases Nat.eq_zero_or_pos (ws_cnt al c b i) with w | w
            · exact Or.inl w
            · rw [ws_ansP w, nI_leI (by omega) (by omega)] at e
              exact Or.inr (by omega)
          rw [if_pos po, if_pos po] at h
          rw [nI_1, nI_1]
          exact h
      refine pk_le 8 i (fun z => absurd z (by omega)) (fun _ => ?_)
      rw [ws_bit al h256 i hi]
      rcases ws_b01 al i with e | e
      · rw [e]
        refine br_f (by decide) ?_
        unfold wL_agrees_36
        refine ws_Lscore h256 hc hD hb hT hi (ws_score hn ha hi hI hc h3 h4 hL (fun _ => br_t rfl (br_t rfl (br_t rfl (ws_ag0 (nx0 (ws_in0 (fun u => by omega)) _ _ _ _ _ _ _))))) (fun z => absurd z (by omega)))
      · rw [e]
        refine br_t rfl ?_
        unfold wL_agrees_36
        refine ws_Lscore h256 hc hD hb hT hi (ws_score hn ha hi hI hc h3 h4 hL (fun z => absurd z (by omega)) (fun _ gN b8 b9 b10 b11 b12 b13 => br_f (by decide) (br_t rfl (br_f (by decide) (ws_Lmatches hc hD hb hT hi (fun hm => br_f (by decide) (nx1 (ws_in1 e hm) _ _ _ _ _ _ _)) (fun hm => br_t rfl (ws_ag0 (nx0 (ws_in0 (fun u => hm u.2)) _ _ _ _ _ _ _))))))))
  exact lp
end
end
section
/-! ===== one turn of the law ===== -/
theorem ws_5t (t : Nat) : (5 : Int32) * nI t + 1 = nI (5 * t + 1) := by
  rw [show (5 : Int32) = nI 5 from rfl, pk_mul, nI_1]
theorem ws_dr : ∀ x0, x0 < 8 → ∀ x1, x1 < 8 → ∀ v, v < 8 → (nI (x0 + 8 * x1) &&& (((7 : Int32) <<< ((3 * nI 0) &&& 31)) ^^^ (-1))) ||| (nI v <<< ((3 * nI 0) &&& 31)) = nI (v + 8 * x1) ∧ (nI (x0 + 8 * x1) &&& (((7 : Int32) <<< ((3 * nI 1) &&& 31)) ^^^ (-1))) ||| (nI v <<< ((3 * nI 1) &&& 31)) = nI (x0 + 8 * v) := by decide +kernel
theorem ws_drS : ∀ x0, x0 < 8 → ∀ x1, x1 < 8 → (nI (x0 + 8 * x1) &&& 7) + (nI (x0 + 8 * x1) >>> ((3 : Int32) &&& 31)) = nI (x0 + x1) := by decide +kernel
theorem ws_drT {x : Nat → Nat} {t v : Nat} (ht : t < 2) (hv : v < 8) (hx : ∀ t, x t ≤ 7) : (nI (x 0 + 8 * x 1) &&& (((7 : Int32) <<< ((3 * nI t) &&& 31)) ^^^ (-1))) ||| (nI v <<< ((3 * nI t) &&& 31)) = nI ((fun s => if s = t then v else x s) 0 + 8 * (fun s => if s = t then v else x s) 1) := by
  have h0 := hx 0
  have h1 := hx 1
  have h := ws_dr (x 0) (by omega) (x 1) (by omega) v hv
  rcases ws_t2 ht with rfl | rfl
  · exact h.1
  · exact h.2
theorem ws_it31 : ∀ x, x < 32 → ∀ y, y < 32 → nI (x + 32 * y) ||| ((31 : Int32) <<< ((5 * nI 0) &&& 31)) = nI (31 + 32 * y) ∧ nI (x + 32 * y) ||| ((31 : Int32) <<< ((5 * nI 1) &&& 31)) = nI (x + 32 * 31) := by decide +kernel
theorem ws_itM : ∀ x, x < 32 → ∀ y, y < 32 → nI (x + 32 * y) &&& (((31 : Int32) <<< ((5 * nI 0) &&& 31)) ^^^ (-1)) = nI (32 * y) ∧ nI (x + 32 * y) &&& (((31 : Int32) <<< ((5 * nI 1) &&& 31)) ^^^ (-1)) = nI x := by decide +kernel
theorem ws_itO : ∀ x, x < 32 → ∀ v, v < 20 → nI (32 * x) ||| (nI v <<< ((5 * nI 0) &&& 31)) = nI (v + 32 * x) ∧ nI x ||| (nI v <<< ((5 * nI 1) &&& 31)) = nI (x + 32 * v) := by decide +kernel
theorem ws_it31T {b : Nat → Nat} {t : Nat} (ht : t < 2) (hb : ∀ t, b t < 32) : nI (b 0 + 32 * b 1) ||| ((31 : Int32) <<< ((5 * nI t) &&& 31)) = nI ((fun s => if s = t then 31 else b s) 0 + 32 * (fun s => if s = t then 31 else b s) 1) := by
  have h := ws_it31 (b 0) (hb 0) (b 1) (hb 1)
  rcases ws_t2 ht with rfl | rfl
  · exact h.1
  · exact h.2
theorem ws_itT {b : Nat → Nat} {t v : Nat} (ht : t < 2) (hv : v < 20) (hb : ∀ t, b t < 32) : (nI (b 0 + 32 * b 1) &&& (((31 : Int32) <<< ((5 * nI t) &&& 31)) ^^^ (-1))) ||| (nI v <<< ((5 * nI t) &&& 31)) = nI ((fun s => if s = t then v else b s) 0 + 32 * (fun s => if s = t then v else b s) 1) := by
  have h := ws_itM (b 0) (hb 0) (b 1) (hb 1)
  rcases ws_t2 ht with rfl | rfl
  · rw [h.1]
    exact (ws_itO (b 1) (hb 1) v hv).1
  · rw [h.2]
    exact (ws_itO (b 0) (hb 0) v hv).2
/-- what holds before and behind every turn -/
def ws_INV (D : Int64) (x4 x5 x6 x7 fA fL fI : Int32) (a1 a2 a3 a4 a5 a6 a7 : Nat → Int32) : Prop :=
  ∃ (n al m : Nat) (c : Nat → Nat → Nat) (q b x : Nat → Nat), n ≤ 8 ∧ al < 2 ^ n ∧ ws_I m q b a6 a7 ∧ (∀ d t, c d t ≤ 7) ∧ (∀ d, n ≤ d → ∀ t, c d t = 0) ∧ (∀ d, d < n → ∀ w, w < 8 → a3 (8 * d + w) = nI (ws_sp (c d) w)) ∧ (∀ d, d < n → a4 d = nI (c d 0 + c d 1)) ∧ (∀ w, w < 8 → a5 w = nI (ws_sp x w)) ∧ (∀ t, x t ≤ 7) ∧ (∀ t, t < 2 → ∃ e ps, ws_LS al c t n a1 a2 e ps) ∧ ws_D D c ∧ (∀ t, b t < 32) ∧ x4 = nI n ∧ x5 = nI al ∧ x6 = nI (x 0 + 8 * x 1) ∧ x7 = nI (b 0 + 32 * b 1) ∧ fA = nI n ∧ fL = nI al ∧ fI = nI m
theorem ws_EP {al n : Nat} {c : Nat → Nat → Nat} {a1 a2 : Nat → Int32} (h : ∀ t, t < 2 → ∃ e ps, ws_LS al c t n a1 a2 e ps) : ∃ (E : Nat → Nat) (P : Nat → Nat → Nat), ∀ t, t < 2 → ws_LS al c t n a1 a2 (E t) (P t) := by
  obtain ⟨e0, p0, h0⟩ := h 0 (by decide)
  obtain ⟨e1, p1, h1⟩ := h 1 (by decide)
  refine ⟨fun t => if t = 0 then e0 else e1, fun t => if t = 0 then p0 else p1, fun t ht => ?_⟩
  rcases ws_t2 ht with rfl | rfl
  · exact h0
  · exact h1
section
variable {fA fL fI fN fF : Int32} {a1 a2 a3 a4 a5 a6 a7 a8 a9 a10 a11 a12 a13 a14 a15 : Nat → Int32}
variable {post : Int32 → Prop} {L : Nat} {xs : Nat → Int32} {J : Int64 → Int32 → Int32 → Int32 → Int32 → Int32 → Int32 → Int32 → Int32 → Int32 → Int32 → (Nat → Int32) → (Nat → Int32) → (Nat → Int32) → (Nat → Int32) → (Nat → Int32) → (Nat → Int32) → (Nat → Int32) → (Nat → Int32) → (Nat → Int32) → (Nat → Int32) → (Nat → Int32) → (Nat → Int32) → (Nat → Int32) → (Nat → Int32) → (Nat → Int32) → Prop} {D : Int64} {x4 x5 x6 x7 x8 : Int32} {kc ks : Nat}
theorem ws_415 (hV : ws_INV D x4 x5 x6 x7 fA fL fI a1 a2 a3 a4 a5 a6 a7) (K : ∀ (gN gF : Int32) (b8 b9 b10 b11 b12 b13 b14 b15 : Nat → Int32), J D x4 x5 x6 x7 (x8 + 2) fA fL fI gN gF a1 a2 a3 a4 a5 a6 a7 b8 b9 b10 b11 b12 b13 b14 b15) : wL_law_415 post L xs J D x4 x5 x6 x7 x8 kc ks fA fL fI fN fF a1 a2 a3 a4 a5 a6 a7 a8 a9 a10 a11 a12 a13 a14 a15 := by
  obtain ⟨n, al, m, c, q, b, x, v1, v2, v3, v4, v5, v6, v7, v8, v9, v10, v11, v12, rfl, rfl, rfl, rfl, rfl, rfl, rfl⟩ := hV
  obtain ⟨E, P, hL⟩ := ws_EP v10
  unfold wL_law_415
  exact ws_agrees v1 v2 v3 v4 v6 v7 hL v11 v12 (ws_Tb v12) (fun gN gF b8 b9 b10 b11 b12 b13 b14 b15 => br_f (by decide) (nm_e (K _ _ _ _ _ _ _ _ _ _)))
theorem ws_live {n al : Nat} {post : Int32 → Prop} (hn : n ≤ 8) (ha : al < 2 ^ n) (h : post (nI (ws_all al))) : wpX_live post (nI n, nI al, fI, fN, fF, a1, a2, a3, a4, a5, a6, a7, a8, a9, a10, a11, a12, a13, a14, a15) := by
  unfold wpX_live
  exact ws_liveCount hn ha h
end
section
variable {fA fL fI fN fF : Int32} {a1 a2 a3 a4 a5 a6 a7 a8 a9 a10 a11 a12 a13 a14 a15 : Nat → Int32}
variable {L : Nat} {xs : Nat → Int32} {post : Int32 → Prop} {J : Int64 → Int32 → Int32 → Int32 → Int32 → Int32 → Int32 → Int32 → Int32 → Int32 → Int32 → (Nat → Int32) → (Nat → Int32) → (Nat → Int32) → (Nat → Int32) → (Nat → Int32) → (Nat → Int32) → (Nat → Int32) → (Nat → Int32) → (Nat → Int32) → (Nat → Int32) → (Nat → Int32) → (Nat → Int32) → (Nat → Int32) → (Nat → Int32) → (Nat → Int32) → Prop} {D : Int64} {x4 x5 x6 x7 x8 : Int32} {kc ks : Nat}
theorem ws_175 {op t v : Nat} {x10 : Int32} (hV : ws_INV D x4 x5 x6 x7 fA fL fI a1 a2 a3 a4 a5 a6 a7)
    (K : ∀ (D : Int64) (x4 x5 x6 x7 fA fL fI fN fF : Int32) (a1 a2 a3 a4 a5 a6 a7 a8 a9 a10 a11 a12 a13 a14 a15 : Nat → Int32), ws_INV D x4 x5 x6 x7 fA fL fI a1 a2 a3 a4 a5 a6 a7 → J D x4 x5 x6 x7 (x8 + 2) fA fL fI fN fF a1 a2 a3 a4 a5 a6 a7 a8 a9 a10 a11 a12 a13 a14 a15)
    (hop : op < 16) (ht : t < 2) (hv : v < 8) : wL_law_175 post L xs J D x4 x5 x6 x7 x8 (nI op) x10 (nI t) (nI v) kc ks fA fL fI fN fF a1 a2 a3 a4 a5 a6 a7 a8 a9 a10 a11 a12 a13 a14 a15 := by
  have hV0 := hV
  obtain ⟨n, al, m, c, q, b, x, v1, v2, v3, v4, v5, v6, v7, v8, v9, v10, v11, v12, rfl, rfl, rfl, rfl, rfl, rfl, rfl⟩ := hV
  have h256 := ws_p8 v1 v2
  have hcl := ws_clr_le al v
  refine pk_eq op 8 (fun _ => ?_) (fun _ => pk_eq op 9 (fun _ => ?_) (fun _ => pk_le 14 op (fun _ => pk_eq op 14 (fun _ => ?_) (fun _ => ws_415 hV0 (fun _ _ _ _ _ _ _ _ _ _ => K _ _ _ _ _ _ _ _ _ _ _ _ _ _ _ _ _ _ _ _ _ _ _ _ _ hV0))) (fun _ => ?_)))
  · -- delete
    rw [ws_bit al h256 v hv]
    rcases ws_b01 al v with e | e
    · rw [e]
      refine br_f (by decide) ?_
      unfold wL_law_198
      refine ws_delete v1 v2 hv (fun _ => br_t (by decide) (br_t rfl (nm_r (ws_and v hv al h256) ?_))) (fun z => absurd z (by omega))
      rw [ws_clr0 e]
      exact ws_415 hV0 (fun _ _ _ _ _ _ _ _ _ _ => K _ _ _ _ _ _ _ _ _ _ _ _ _ _ _ _ _ _ _ _ _ _ _ _ _ hV0)
    · rw [e]
      refine br_t rfl ?_
      unfold wL_law_198
      refine ws_delete v1 v2 hv (fun z => absurd z (by omega)) (fun _ => br_f (nI_pos (by have := ws_all_le (ws_clr al v); omega)) (br_t rfl (nm_r (ws_and v hv al h256) ?_)))
      have hV1 : ws_INV D (nI n) (nI (ws_clr al v)) (nI (x 0 + 8 * x 1)) (nI (b 0 + 32 * b 1)) (nI n) (nI (ws_clr al v)) (nI m) a1 a2 a3 a4 a5 a6 a7 := ⟨n, ws_clr al v, m, c, q, b, x, v1, by omega, v3, v4, v5, v6, v7, v8, v9, fun t ht => by
        obtain ⟨e, ps, h⟩ := v10 t ht
        exact ⟨e, ps, ws_LS_clr v1 v2 hv h⟩, v11, v12, rfl, rfl, rfl, rfl, rfl, rfl, rfl⟩
      exact ws_415 hV1 (fun _ _ _ _ _ _ _ _ _ _ => K _ _ _ _ _ _ _ _ _ _ _ _ _ _ _ _ _ _ _ _ _ _ _ _ _ hV1)
  · -- tidy
    refine ws_tidy v1 v2 v4 v6 (fun b1 b2 hL => ws_live v1 v2 (br_t rfl ?_))
    have hV1 : ws_INV D (nI n) (nI al) (nI (x 0 + 8 * x 1)) (nI (b 0 + 32 * b 1)) (nI n) (nI al) (nI m) b1 b2 a3 a4 a5 a6 a7 := ⟨n, al, m, c, q, b, x, v1, v2, v3, v4, v5, v6, v7, v8, v9, hL, v11, v12, rfl, rfl, rfl, rfl, rfl, rfl, rfl⟩
    exact ws_415 hV1 (fun _ _ _ _ _ _ _ _ _ _ => K _ _ _ _ _ _ _ _ _ _ _ _ _ _ _ _ _ _ _ _ _ _ _ _ _ hV1)
  · -- drop
    have hbt := v12 t
    rw [ws_Tb v12 t ht]
    refine pk_le 20 (b t) (fun z => ?_) (fun z => ?_)
    · unfold wL_law_376
      rw [ws_5t]
      refine ws_drop ht v3 (fun e => br_t (by decide) (br_t rfl (nm_r (ws_it31T ht v12) ?_))) (fun e => absurd e (by omega))
      have e1 : (fun s => if s = t then 31 else b s) = b := by
        funext s
        by_cases w : s = t
        · rw [if_pos w, w, e]
        · rw [if_neg w]
      rw [e1]
      exact ws_415 hV0 (fun _ _ _ _ _ _ _ _ _ _ => K _ _ _ _ _ _ _ _ _ _ _ _ _ _ _ _ _ _ _ _ _ _ _ _ _ hV0)
    · unfold wL_law_376
      rw [ws_5t]
      refine ws_drop ht v3 (fun e => absurd e (by omega)) (fun e m' q' b6 b7 hI => br_f (nI_pos (by have := hI.1; omega)) (br_t rfl (nm_r (ws_it31T ht v12) ?_)))
      have hV1 : ws_INV D (nI n) (nI al) (nI (x 0 + 8 * x 1)) (nI ((fun s => if s = t then 31 else b s) 0 + 32 * (fun s => if s = t then 31 else b s) 1)) (nI n) (nI al) (nI m') a1 a2 a3 a4 a5 b6 b7 := ⟨n, al, m', c, q', (fun s => if s = t then 31 else b s), x, v1, v2, hI, v4, v5, v6, v7, v8, v9, v10, v11, fun s => by
        have := v12 s
        dsimp only
        split <;> omega, rfl, rfl, rfl, rfl, rfl, rfl, rfl⟩
      exact ws_415 hV1 (fun _ _ _ _ _ _ _ _ _ _ => K _ _ _ _ _ _ _ _ _ _ _ _ _ _ _ _ _ _ _ _ _ _ _ _ _ hV1)
  · -- item
    obtain ⟨j, hj, ej⟩ := pk_andE (x10 >>> ((4 : Int32) &&& 31)) (m := 31) 5 (by decide)
    have er : nI j - nI j / 20 * 20 = nI (j % 20) := pk_rem (d := 20) (by omega) (by omega) (by omega)
    have h32 : (2 : Nat) ^ 5 = 32 := rfl
    have hw : j % 20 < 20 := by omega
    refine ⟨by decide, nm_r (e' := nI (j % 20)) (by rw [ej, er]) ?_⟩
    rw [ws_5t]
    generalize j % 20 = w at hw
    refine ws_item ht hw v3 (fun e => br_t rfl (pk_eq w 10 (fun _ => br_t rfl (pk_eq w 10 (fun _ => ws_415 hV0 (fun _ _ _ _ _ _ _ _ _ _ => K _ _ _ _ _ _ _ _ _ _ _ _ _ _ _ _ _ _ _ _ _ _ _ _ _ hV0)) (fun u => absurd e u))) (fun u => absurd e u))) (fun e m' q' b6 b7 hI => br_f ?_ (pk_eq w 10 (fun u => absurd u e) (fun _ => br_t rfl (pk_eq w 10 (fun u => absurd u e) (fun _ => nm_r (ws_itT ht hw v12) ?_)))))
    · have h2 := hI.1
      have h3 : ∀ k, k < 3 → ¬ nI k = -2 := by decide
      exact h3 m' (by omega)
    · have hV1 : ws_INV D (nI n) (nI al) (nI (x 0 + 8 * x 1)) (nI ((fun s => if s = t then w else b s) 0 + 32 * (fun s => if s = t then w else b s) 1)) (nI n) (nI al) (nI m') a1 a2 a3 a4 a5 b6 b7 := ⟨n, al, m', c, q', (fun s => if s = t then w else b s), x, v1, v2, hI, v4, v5, v6, v7, v8, v9, v10, v11, fun s => by
        have := v12 s
        dsimp only
        split <;> omega, rfl, rfl, rfl, rfl, rfl, rfl, rfl⟩
      exact ws_415 hV1 (fun _ _ _ _ _ _ _ _ _ _ => K _ _ _ _ _ _ _ _ _ _ _ _ _ _ _ _ _ _ _ _ _ _ _ _ _ hV1)
end
end
section
/-! ===== the law ===== -/
theorem ws_loop {xs : Nat → Int32} {L kc ks : Nat} (hL : L ≤ 260) : ∀ (f i : Nat) (D : Int64) (x4 x5 x6 x7 fA fL fI fN fF : Int32) (a1 a2 a3 a4 a5 a6 a7 a8 a9 a10 a11 a12 a13 a14 a15 : Nat → Int32), i ≤ L / 2 → L / 2 - i < f → ws_INV D x4 x5 x6 x7 fA fL fI a1 a2 a3 a4 a5 a6 a7 → wL_law_27 (fun r => r = 1) L xs kc ks f D x4 x5 x6 x7 (nI (2 * i)) fA fL fI fN fF a1 a2 a3 a4 a5 a6 a7 a8 a9 a10 a11 a12 a13 a14 a15 := by
  intro f
  induction f with
  | zero =>
    intro i D x4 x5 x6 x7 fA fL fI fN fF a1 a2 a3 a4 a5 a6 a7 a8 a9 a10 a11 a12 a13 a14 a15 hi hf
    omega
  | succ f ih =>
    intro i D x4 x5 x6 x7 fA fL fI fN fF a1 a2 a3 a4 a5 a6 a7 a8 a9 a10 a11 a12 a13 a14 a15 hi hf hV
    refine pk_le L (2 * i + 1) (fun _ => rfl) (fun z => ?_) rfl (nI_1 _)
    have K : ∀ (D : Int64) (x4 x5 x6 x7 fA fL fI fN fF : Int32) (a1 a2 a3 a4 a5 a6 a7 a8 a9 a10 a11 a12 a13 a14 a15 : Nat → Int32), ws_INV D x4 x5 x6 x7 fA fL fI a1 a2 a3 a4 a5 a6 a7 → wL_law_27 (fun r => r = 1) L xs kc ks f D x4 x5 x6 x7 (nI (2 * i) + 2) fA fL fI fN fF a1 a2 a3 a4 a5 a6 a7 a8 a9 a10 a11 a12 a13 a14 a15 := by
      intro D x4 x5 x6 x7 fA fL fI fN fF a1 a2 a3 a4 a5 a6 a7 a8 a9 a10 a11 a12 a13 a14 a15 hV
      rw [ws_2x]
      exact ih (i + 1) D x4 x5 x6 x7 fA fL fI fN fF a1 a2 a3 a4 a5 a6 a7 a8 a9 a10 a11 a12 a13 a14 a15 (by omega) (by omega) hV
    have hV0 := hV
    obtain ⟨n, al, m, c, q, b, x, v1, v2, v3, v4, v5, v6, v7, v8, v9, v10, v11, v12, rfl, rfl, rfl, rfl, rfl, rfl, rfl⟩ := hV
    have h256 := ws_p8 v1 v2
    obtain ⟨op, hop, eop⟩ := pk_andE (xs (nI (2 * i)).toNatClampNeg) (m := 15) 4 (by decide)
    refine ⟨pk_in (2 * i) L (by omega), nm_r eop ⟨pk_in (2 * i + 1) L (by omega) (nI_1 _), nm_e ?_⟩⟩
    generalize xs (nI (2 * i) + 1).toNatClampNeg = x10
    obtain ⟨t, ht, et⟩ := pk_andE x10 (m := 1) 1 (by decide)
    obtain ⟨v, hv, ev⟩ := pk_andE (x10 >>> ((1 : Int32) &&& 31)) (m := 7) 3 (by decide)
    have ht2 : t < 2 := ht
    have hv8 : v < 8 := hv
    have hop16 : op < 16 := hop
    refine nm_r et (nm_r ev (pk_le 5 op (fun _ => pk_le 8 op (fun _ => ws_175 hV0 K hop16 ht2 hv8) (fun _ => pk_le 8 n (fun _ => ws_175 hV0 K hop16 ht2 hv8) (fun hn => ?_))) (fun _ => ?_)))
    · -- add
      refine ws_add hn v2 v4 v9 v6 v7 v8 v10 (fun b1 b2 b3 b4 c' hc' h7 h3' h4' hL' => br_t rfl (nm_e (nm_r (ws_or n hn al h256 v2) (nm_r (nI_1 n) ?_))))
      have hp : 2 ^ (n + 1) = 2 ^ n + 2 ^ n := by
        rw [Nat.pow_succ]
        omega
      have hV1 : ws_INV (D ||| ((nI (x 0 + 8 * x 1)).toInt64 <<< ((6 * nI n).toInt64 &&& 63))) (nI (n + 1)) (nI (al + 2 ^ n)) (nI (x 0 + 8 * x 1)) (nI (b 0 + 32 * b 1)) (nI (n + 1)) (nI (al + 2 ^ n)) (nI m) b1 b2 b3 b4 a5 a6 a7 := by
        refine ⟨n + 1, al + 2 ^ n, m, c', q, b, x, by omega, by omega, v3, h7, fun d hd t => ?_, h3', h4', v8, v9, hL', ?_, v12, rfl, rfl, rfl, rfl, rfl, rfl, rfl⟩
        · rw [hc']
          dsimp only
          rw [if_neg (by omega)]
          exact v5 d (by omega) t
        · rw [hc']
          exact ws_Dadd hn v4 v9 (fun t => v5 n (by omega) t) v11
      exact ws_415 hV1 (fun _ _ _ _ _ _ _ _ _ _ => K _ _ _ _ _ _ _ _ _ _ _ _ _ _ _ _ _ _ _ _ _ _ _ _ _ hV1)
    · -- write
      refine nm_r (ws_drT ht2 hv8 v9) ?_
      rw [ws_5t]
      refine ws_write ht2 (by omega) v9 v8 (fun b5 y hy hy7 h5 => ?_)
      rw [← hy]
      have y0 := hy7 0
      have y1 := hy7 1
      have hV1 : ws_INV D (nI n) (nI al) (nI (y 0 + 8 * y 1)) (nI (b 0 + 32 * b 1)) (nI n) (nI al) (nI m) a1 a2 a3 a4 b5 a6 a7 := ⟨n, al, m, c, q, b, y, v1, v2, v3, v4, v5, v6, v7, h5, hy7, v10, v11, v12, rfl, rfl, rfl, rfl, rfl, rfl, rfl⟩
      exact br_t (ws_drS (y 0) (by omega) (y 1) (by omega)).symm (ws_415 hV1 (fun _ _ _ _ _ _ _ _ _ _ => K _ _ _ _ _ _ _ _ _ _ _ _ _ _ _ _ _ _ _ _ _ _ _ _ _ hV1))
theorem ws_INV0 : ws_INV 0 0 0 0 1023 0 0 0 (fun _ => 0) (fun _ => 0) (fun _ => 0) (fun _ => 0) (fun _ => 0) (fun _ => 0) (fun _ => 0) := by
  refine ⟨0, 0, 0, fun _ _ => 0, fun _ => 0, fun _ => 31, fun _ => 0, by omega, by decide, ⟨by omega, fun k hk => absurd hk (by omega), fun t _ _ => rfl, fun j k hj => absurd hj (by omega)⟩, fun _ _ => Nat.zero_le _, fun _ _ _ => rfl, fun d hd => absurd hd (by omega), fun d hd => absurd hd (by omega), fun w _ => ?_, fun _ => Nat.zero_le _, fun t _ => ⟨0, fun _ => 0, rfl, Nat.le_refl 0, rfl, Nat.le_refl 0, fun k hk => absurd hk (by omega), fun d _ hd => absurd hd (by omega)⟩, ws_D0, fun _ => (by decide : 31 < 32), rfl, rfl, rfl, rfl, rfl, rfl, rfl⟩
  have e : ws_sp (fun _ => 0) w = 0 := by
    unfold ws_sp
    split
    · rfl
    · split
      · rfl
      · rfl
  rw [e]
  rfl
theorem i_vc (xs : Nat → Int32) (L : Nat) (hL : L ≤ 260) : wpL_law (fun r => r = 1) L xs := by
  refine ⟨15, 676, by omega, by omega, by omega, by omega, by omega, by omega, by omega, by omega, by omega, by omega, by omega, by omega, by omega, by omega, by omega, by omega, by omega, by omega, by omega, by omega, by omega, by omega, by omega, by omega, by omega, by omega, by omega, by omega, by omega, by omega, by omega, by omega, ?_⟩
  exact ⟨L / 2 + 1, ws_loop hL (L / 2 + 1) 0 0 0 0 0 1023 0 0 0 0 0 _ _ _ _ _ _ _ _ _ _ _ _ _ _ _ (by omega) (by omega) ws_INV0⟩
end
