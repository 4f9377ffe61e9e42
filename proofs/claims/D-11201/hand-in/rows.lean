section
/-! numbers -/
theorem ip_half {n : Nat} (h : n < 2 ^ 31) : nI n >>> ((1 : Int32) &&& 31) = nI (n / 2) := pk_shrN h _ 1 (by decide)
theorem ip_s1 {n : Nat} (h : 1 ≤ n) : nI n - 1 = nI (n - 1) := pk_sub (a := n) (b := 1) h
theorem ip_s0 (n : Nat) : nI n - 0 = nI n := pk_sub (a := n) (b := 0) (Nat.zero_le n)
theorem ip_a0 (n : Nat) : nI n + 0 = nI n := nI_add n 0
theorem ip_cl (n : Nat) (h : n < 1000) : (nI n).toNatClampNeg = n := nI_clamp (by omega)
/-! the pure picture -/
def ip_k (m l r : Nat) : Nat := if m < l ∧ 0 < r then 1 else 0
def ip_kl (m l r : Nat) : Nat := if m ≤ l ∧ 0 < l ∧ 0 < m ∧ 0 < r then 1 else 0
def ip_aw (l0 l1 u : Nat) : Nat := if u ≤ 2 * min l0 l1 then (u + 1) / 2 else if l0 < l1 then l0 else u - l1
def ip_lo (l0 l1 u : Nat) : Nat := if l0 ≤ l1 then (if u ≤ l1 - l0 then 0 else (u - (l1 - l0) + 1) / 2) else (if u ≤ l0 - l1 then u else (u - (l0 - l1) + 1) / 2 + (l0 - l1))
def ip_qr (x y u q0 q1 : Nat) : Nat := if u ≤ q0 + q1 then q0 else if q0 < x ∧ (y ≤ q1 ∨ y * (q0 + 1) ≤ x * (q1 + 1)) then q0 + 1 else q0
def ip_qu (x y u : Nat) : Nat := ip_qr x y u (u * x / (x + y)) (u * y / (x + y))
def ip_hb (x y u f h : Nat) : Nat := h + ip_lo (x - h) (y - (f - h)) (u - f)
def ip_hf (x y u : Nat) : Nat := min u ((x + y + 1) / 2)
def ip_hh (x y u : Nat) : Nat := ip_aw ((x + 1) / 2) ((y + 1) / 2) (ip_hf x y u)
def ip_ha (x y u : Nat) : Nat := ip_hb x y u (ip_hf x y u) (ip_hh x y u)
def ip_G (rl x y u : Nat) : Nat := if rl = 0 then ip_aw x y u else if rl = 1 then ip_lo x y u else if rl = 2 then ip_qu x y u else ip_ha x y u
/-! what each is -/
theorem ip_k_c (m l r : Nat) : (m < l ∧ 0 < r ∧ ip_k m l r = 1) ∨ ((l ≤ m ∨ r = 0) ∧ ip_k m l r = 0) := by
  unfold ip_k
  by_cases h : m < l ∧ 0 < r
  · rw [if_pos h]; exact Or.inl ⟨h.1, h.2, rfl⟩
  · rw [if_neg h]; exact Or.inr ⟨by omega, rfl⟩
theorem ip_kl_c (m l r : Nat) : (m ≤ l ∧ 0 < l ∧ 0 < m ∧ 0 < r ∧ ip_kl m l r = 1) ∨ ((l < m ∨ l = 0 ∨ m = 0 ∨ r = 0) ∧ ip_kl m l r = 0) := by
  unfold ip_kl
  by_cases h : m ≤ l ∧ 0 < l ∧ 0 < m ∧ 0 < r
  · rw [if_pos h]; exact Or.inl ⟨h.1, h.2.1, h.2.2.1, h.2.2.2, rfl⟩
  · rw [if_neg h]; exact Or.inr ⟨by omega, rfl⟩
theorem ip_aw_c (l0 l1 u : Nat) : (u ≤ 2 * min l0 l1 ∧ ip_aw l0 l1 u = (u + 1) / 2) ∨ (2 * min l0 l1 < u ∧ l0 < l1 ∧ ip_aw l0 l1 u = l0) ∨ (2 * min l0 l1 < u ∧ l1 ≤ l0 ∧ ip_aw l0 l1 u = u - l1) := by
  unfold ip_aw
  by_cases h : u ≤ 2 * min l0 l1
  · rw [if_pos h]; exact Or.inl ⟨h, rfl⟩
  · rw [if_neg h]
    by_cases h2 : l0 < l1
    · rw [if_pos h2]; exact Or.inr (Or.inl ⟨by omega, h2, rfl⟩)
    · rw [if_neg h2]; exact Or.inr (Or.inr ⟨by omega, by omega, rfl⟩)
theorem ip_lo_c (l0 l1 u : Nat) : (l0 ≤ l1 ∧ u ≤ l1 - l0 ∧ ip_lo l0 l1 u = 0) ∨ (l0 ≤ l1 ∧ l1 - l0 < u ∧ ip_lo l0 l1 u = (u - (l1 - l0) + 1) / 2) ∨ (l1 < l0 ∧ u ≤ l0 - l1 ∧ ip_lo l0 l1 u = u) ∨ (l1 < l0 ∧ l0 - l1 < u ∧ ip_lo l0 l1 u = (u - (l0 - l1) + 1) / 2 + (l0 - l1)) := by
  unfold ip_lo
  by_cases h : l0 ≤ l1
  · rw [if_pos h]
    by_cases h2 : u ≤ l1 - l0
    · rw [if_pos h2]; exact Or.inl ⟨h, h2, rfl⟩
    · rw [if_neg h2]; exact Or.inr (Or.inl ⟨h, by omega, rfl⟩)
  · rw [if_neg h]
    by_cases h2 : u ≤ l0 - l1
    · rw [if_pos h2]; exact Or.inr (Or.inr (Or.inl ⟨by omega, h2, rfl⟩))
    · rw [if_neg h2]; exact Or.inr (Or.inr (Or.inr ⟨by omega, by omega, rfl⟩))
theorem ip_aw_b {l0 l1 u : Nat} (h : u ≤ l0 + l1) : ip_aw l0 l1 u ≤ l0 ∧ ip_aw l0 l1 u ≤ u ∧ u - ip_aw l0 l1 u ≤ l1 := by
  have c := ip_aw_c l0 l1 u
  generalize ip_aw l0 l1 u = A at c ⊢
  omega
theorem ip_lo_b {l0 l1 u : Nat} (h : u ≤ l0 + l1) : ip_lo l0 l1 u ≤ l0 ∧ ip_lo l0 l1 u ≤ u ∧ u - ip_lo l0 l1 u ≤ l1 := by
  have c := ip_lo_c l0 l1 u
  generalize ip_lo l0 l1 u = A at c ⊢
  omega
theorem ip_aw_0 : ip_aw 0 0 0 = 0 := rfl
/-- the level that the halving finds, and the units over: award's closed form -/
theorem ip_aw_lv {l0 l1 u m : Nat} (hu : u ≤ l0 + l1) (h0 : l0 ≤ 150) (h1 : l1 ≤ 150) (ha : min l0 m + min l1 m ≤ u) (hb : m = 150 ∨ u < min l0 (m + 1) + min l1 (m + 1)) :
    min l0 m + ip_k m l0 (u - (min l0 m + min l1 m)) = ip_aw l0 l1 u ∧
    min l1 m + ip_k m l1 (u - (min l0 m + min l1 m) - ip_k m l0 (u - (min l0 m + min l1 m))) = u - ip_aw l0 l1 u := by
  have c := ip_aw_c l0 l1 u
  generalize ip_aw l0 l1 u = A at c ⊢
  have hR : u - (min l0 m + min l1 m) + (min l0 m + min l1 m) = u := Nat.sub_add_cancel ha
  generalize u - (min l0 m + min l1 m) = R at hR ⊢
  have c0 := ip_k_c m l0 R
  generalize ip_k m l0 R = k0 at c0 ⊢
  have c1 := ip_k_c m l1 (R - k0)
  generalize ip_k m l1 (R - k0) = k1 at c1 ⊢
  rcases Nat.le_total l0 m with z0 | z0 <;> rcases Nat.le_total l1 m with z1 | z1 <;> rcases c0 with c0 | c0 <;> rcases c1 with c1 | c1 <;> omega
/-- .. and lose's -/
theorem ip_lo_lv {l0 l1 u m : Nat} (hu : u ≤ l0 + l1) (ha : l0 - m + (l1 - m) ≤ u) (hb : m = 0 ∨ u < l0 - (m - 1) + (l1 - (m - 1))) :
    l0 - m + ip_kl m l0 (u - (l0 - m + (l1 - m))) = ip_lo l0 l1 u ∧
    l1 - m + ip_kl m l1 (u - (l0 - m + (l1 - m)) - ip_kl m l0 (u - (l0 - m + (l1 - m)))) = u - ip_lo l0 l1 u := by
  have c := ip_lo_c l0 l1 u
  generalize ip_lo l0 l1 u = A at c ⊢
  have hR : u - (l0 - m + (l1 - m)) + (l0 - m + (l1 - m)) = u := Nat.sub_add_cancel ha
  generalize u - (l0 - m + (l1 - m)) = R at hR ⊢
  have c0 := ip_kl_c m l0 R
  generalize ip_kl m l0 R = k0 at c0 ⊢
  have c1 := ip_kl_c m l1 (R - k0)
  generalize ip_kl m l1 (R - k0) = k1 at c1 ⊢
  rcases Nat.le_total l0 m with z0 | z0 <;> rcases Nat.le_total l1 m with z1 | z1 <;> rcases c0 with c0 | c0 <;> rcases c1 with c1 | c1 <;> omega
/-- the two quotas, rounded down, leave nothing or one unit -/
theorem ip_q {x y u : Nat} (hs : 0 < x + y) (hu : u ≤ x + y) : u * x / (x + y) ≤ x ∧ u * y / (x + y) ≤ y ∧ u * x / (x + y) + u * y / (x + y) ≤ u ∧ u ≤ u * x / (x + y) + u * y / (x + y) + 1 := by
  have e1 := Nat.div_mul_le_self (u * x) (x + y)
  have e2 := Nat.div_mul_le_self (u * y) (x + y)
  have e3 := Nat.lt_mul_div_succ (u * x) hs
  have e4 := Nat.lt_mul_div_succ (u * y) hs
  have b1 : u * x / (x + y) ≤ x := Nat.div_le_of_le_mul (Nat.mul_le_mul_right x hu)
  have b2 : u * y / (x + y) ≤ y := Nat.div_le_of_le_mul (Nat.mul_le_mul_right y hu)
  generalize u * x / (x + y) = q0 at *
  generalize u * y / (x + y) = q1 at *
  have e5 : u * x + u * y = u * (x + y) := (Nat.mul_add u x y).symm
  refine ⟨b1, b2, ?_, ?_⟩
  · refine Nat.le_of_mul_le_mul_right (c := x + y) ?_ hs
    rw [Nat.add_mul]
    omega
  · have h : u * (x + y) < (q0 + q1 + 2) * (x + y) := by
      have e6 : (q0 + q1 + 2) * (x + y) = (x + y) * (q0 + 1) + (x + y) * (q1 + 1) := by
        rw [← Nat.mul_add, Nat.mul_comm]
        congr 1
        omega
      omega
    have h2 := Nat.lt_of_mul_lt_mul_right h
    omega
theorem ip_qr_b {x y u q0 q1 : Nat} (h1 : q0 + q1 ≤ u) : ip_qr x y u q0 q1 ≤ u := by
  unfold ip_qr
  by_cases h : u ≤ q0 + q1
  · rw [if_pos h]; omega
  · rw [if_neg h]
    by_cases h2 : q0 < x ∧ (y ≤ q1 ∨ y * (q0 + 1) ≤ x * (q1 + 1))
    · rw [if_pos h2]; omega
    · rw [if_neg h2]; omega
theorem ip_qu_b {x y u : Nat} (hu : u ≤ x + y) : ip_qu x y u ≤ u := by
  rcases Nat.eq_zero_or_pos (x + y) with z | z
  · have e1 : u * x / (x + y) = 0 := by rw [z]; exact Nat.div_zero _
    have e2 : u * y / (x + y) = 0 := by rw [z]; exact Nat.div_zero _
    unfold ip_qu
    rw [e1, e2]
    exact ip_qr_b (by omega)
  · exact ip_qr_b (ip_q z hu).2.2.1
theorem ip_hh_b (x y u : Nat) : ip_hf x y u ≤ u ∧ ip_hh x y u ≤ (x + 1) / 2 ∧ ip_hh x y u ≤ ip_hf x y u ∧ ip_hf x y u - ip_hh x y u ≤ (y + 1) / 2 := by
  have hf : ip_hf x y u ≤ u ∧ ip_hf x y u ≤ (x + 1) / 2 + (y + 1) / 2 := by
    unfold ip_hf
    omega
  have := ip_aw_b hf.2
  exact ⟨hf.1, this.1, this.2.1, this.2.2⟩
theorem ip_ha_b {x y u : Nat} (hu : u ≤ x + y) : ip_hh x y u ≤ x ∧ ip_hf x y u - ip_hh x y u ≤ y ∧ u - ip_hf x y u ≤ x - ip_hh x y u + (y - (ip_hf x y u - ip_hh x y u)) ∧ ip_lo (x - ip_hh x y u) (y - (ip_hf x y u - ip_hh x y u)) (u - ip_hf x y u) ≤ u - ip_hf x y u ∧ ip_ha x y u ≤ u := by
  have b := ip_hh_b x y u
  unfold ip_ha ip_hb
  generalize ip_hh x y u = h at *
  generalize ip_hf x y u = f at *
  have c1 : h ≤ x := by omega
  have c2 : f - h ≤ y := by omega
  have c3 : u - f ≤ x - h + (y - (f - h)) := by omega
  have c := ip_lo_b c3
  omega
theorem ip_G_b {rl x y u : Nat} (hu : u ≤ x + y) : ip_G rl x y u ≤ u := by
  unfold ip_G
  by_cases h0 : rl = 0
  · rw [if_pos h0]; exact (ip_aw_b hu).2.1
  · rw [if_neg h0]
    by_cases h1 : rl = 1
    · rw [if_pos h1]; exact (ip_lo_b hu).2.1
    · rw [if_neg h1]
      by_cases h2 : rl = 2
      · rw [if_pos h2]; exact ip_qu_b hu
      · rw [if_neg h2]; exact (ip_ha_b hu).2.2.2.2
end
section
section
variable {post : St2 → Prop} {p o : Int32} {a1 a2 a3 a4 a5 a6 : Nat → Int32}
/-! takeLimits -/
theorem ip_tl33t {J : Int32 → (Nat → Int32) → (Nat → Int32) → (Nat → Int32) → (Nat → Int32) → (Nat → Int32) → (Nat → Int32) → Prop} {x1 x2 : Int32} {i w g : Nat} (hi : i < 2) (h2 : a2 i = x1) (h4 : a4 i = nI g) (hg : g ≤ w)
    (H : J (nI (i + 1)) a1 a2 a3 a4 (upd a5 i (nI (w - g))) a6) : wX_takeLimits_33 post J x1 x2 (nI i) (nI w) 2 p o a1 a2 a3 a4 a5 a6 := by
  unfold wX_takeLimits_33
  rw [ip_cl i (by omega), h4]
  exact ⟨pk_in i 8 (by omega), br_t h2 ⟨pk_in i 8 (by omega), pk_in i 8 (by omega), nm_r (by rw [pk_sub hg]) (nm_r (nI_1 i) H)⟩⟩
theorem ip_tl33f {J : Int32 → (Nat → Int32) → (Nat → Int32) → (Nat → Int32) → (Nat → Int32) → (Nat → Int32) → (Nat → Int32) → Prop} {x1 x2 w : Int32} {i : Nat} (hi : i < 2) (h2 : ¬ a2 i = x1)
    (H : J (nI (i + 1)) a1 a2 a3 a4 (upd a5 i (nI 0)) a6) : wX_takeLimits_33 post J x1 x2 (nI i) w 2 p o a1 a2 a3 a4 a5 a6 := by
  unfold wX_takeLimits_33
  rw [ip_cl i (by omega)]
  exact ⟨pk_in i 8 (by omega), br_f h2 ⟨pk_in i 8 (by omega), nm_e (nm_r (nI_1 i) H)⟩⟩
theorem ip_tl2 {r : Int32} {n i w g : Nat} (hi : i < 2) (h1 : a1 i = nI w) (h2 : a2 i = r) (h4 : a4 i = nI g) (hg : g ≤ w)
    (H : wX_takeLimits_2 post r 0 2 p o n (nI (i + 1)) a1 a2 a3 a4 (upd a5 i (nI (w - g))) a6) : wX_takeLimits_2 post r 0 2 p o (n + 1) (nI i) a1 a2 a3 a4 a5 a6 := by
  refine pk_le 2 i (fun z => absurd z (by omega)) (fun _ => br_t rfl ⟨pk_in i 8 (by omega), ?_⟩)
  rw [ip_cl i (by omega), h1]
  exact ip_tl33t hi h2 h4 hg H
theorem ip_tl2h {r : Int32} {n i w g : Nat} (hi : i < 2) (h1 : a1 i = nI w) (h2 : a2 i = r) (h4 : a4 i = nI g) (hg : g ≤ (w + 1) / 2) (hw : w ≤ 1000)
    (H : wX_takeLimits_2 post r 1 2 p o n (nI (i + 1)) a1 a2 a3 a4 (upd a5 i (nI ((w + 1) / 2 - g))) a6) : wX_takeLimits_2 post r 1 2 p o (n + 1) (nI i) a1 a2 a3 a4 a5 a6 := by
  refine pk_le 2 i (fun z => absurd z (by omega)) (fun _ => br_f (by decide) ⟨pk_in i 8 (by omega), ?_⟩)
  rw [ip_cl i (by omega), h1, nI_1, ip_half (by omega)]
  exact ip_tl33t hi h2 h4 hg H
theorem ip_tl2f {r : Int32} {n i : Nat} (hi : i < 2) (h2 : ¬ a2 i = r)
    (H : wX_takeLimits_2 post r 0 2 p o n (nI (i + 1)) a1 a2 a3 a4 (upd a5 i (nI 0)) a6) : wX_takeLimits_2 post r 0 2 p o (n + 1) (nI i) a1 a2 a3 a4 a5 a6 := by
  refine pk_le 2 i (fun z => absurd z (by omega)) (fun _ => br_t rfl ⟨pk_in i 8 (by omega), ?_⟩)
  exact ip_tl33f hi h2 H
theorem ip_tlE {r b : Int32} {n : Nat} (H : post (2, p, o, a1, a2, a3, a4, a5, a6)) : wX_takeLimits_2 post r b 2 p o (n + 1) (nI 2) a1 a2 a3 a4 a5 a6 :=
  pk_le 2 2 (fun _ => H) (fun z => absurd z (by omega))
theorem ip_u0 {f : Nat → Int32} {v w : Int32} : upd (upd f 0 v) 1 w 0 = v := rfl
theorem ip_u1 {f : Nat → Int32} {v w : Int32} : upd (upd f 0 v) 1 w 1 = w := rfl
theorem ip_tl {r : Int32} {x y g0 g1 : Nat} (h10 : a1 0 = nI x) (h11 : a1 1 = nI y) (h20 : a2 0 = r) (h21 : a2 1 = r) (h40 : a4 0 = nI g0) (h41 : a4 1 = nI g1) (hg0 : g0 ≤ x) (hg1 : g1 ≤ y)
    (H : ∀ a5' : Nat → Int32, a5' 0 = nI (x - g0) → a5' 1 = nI (y - g1) → post (2, p, o, a1, a2, a3, a4, a5', a6)) : wpX_takeLimits post (2, p, o, a1, a2, a3, a4, a5, a6) r 0 :=
  ⟨3, ip_tl2 (i := 0) (by omega) h10 h20 h40 hg0 (ip_tl2 (i := 1) (by omega) h11 h21 h41 hg1 (ip_tlE (H _ ip_u0 ip_u1)))⟩
theorem ip_tlh {r : Int32} {x y g0 g1 : Nat} (h10 : a1 0 = nI x) (h11 : a1 1 = nI y) (h20 : a2 0 = r) (h21 : a2 1 = r) (h40 : a4 0 = nI g0) (h41 : a4 1 = nI g1) (hg0 : g0 ≤ (x + 1) / 2) (hg1 : g1 ≤ (y + 1) / 2) (hx : x ≤ 1000) (hy : y ≤ 1000)
    (H : ∀ a5' : Nat → Int32, a5' 0 = nI ((x + 1) / 2 - g0) → a5' 1 = nI ((y + 1) / 2 - g1) → post (2, p, o, a1, a2, a3, a4, a5', a6)) : wpX_takeLimits post (2, p, o, a1, a2, a3, a4, a5, a6) r 1 :=
  ⟨3, ip_tl2h (i := 0) (by omega) h10 h20 h40 hg0 hx (ip_tl2h (i := 1) (by omega) h11 h21 h41 hg1 hy (ip_tlE (H _ ip_u0 ip_u1)))⟩
theorem ip_tlf {r : Int32} (h20 : ¬ a2 0 = r) (h21 : ¬ a2 1 = r)
    (H : ∀ a5' : Nat → Int32, a5' 0 = nI 0 → a5' 1 = nI 0 → post (2, p, o, a1, a2, a3, a4, a5', a6)) : wpX_takeLimits post (2, p, o, a1, a2, a3, a4, a5, a6) r 0 :=
  ⟨3, ip_tl2f (i := 0) (by omega) h20 (ip_tl2f (i := 1) (by omega) h21 (ip_tlE (H _ ip_u0 ip_u1)))⟩
end
section
variable {post : Int32 → Prop} {p o : Int32} {a1 a2 a3 a4 a5 a6 : Nat → Int32}
/-! awarded -/
theorem ip_aw4 {n m l s i : Nat} (hi : i < 2) (hl : a5 i = nI l) (hb : l ≤ 1000) (hm : m ≤ 1000)
    (H : wX_awarded_4 post (nI m) 2 p o a1 a2 a3 a4 a5 a6 n (nI (s + min l m)) (nI (i + 1))) : wX_awarded_4 post (nI m) 2 p o a1 a2 a3 a4 a5 a6 (n + 1) (nI s) (nI i) := by
  refine pk_le 2 i (fun z => absurd z (by omega)) (fun _ => ⟨pk_in i 8 (by omega), ?_⟩)
  rw [ip_cl i (by omega), hl]
  exact pk_le m l (fun z => nm_r (show nI s + nI m = nI (s + min l m) by rw [nI_add, Nat.min_eq_right z]) (nm_r (nI_1 i) H))
    (fun z => ⟨pk_in i 8 (by omega), nm_r (show nI s + nI l = nI (s + min l m) by rw [nI_add, Nat.min_eq_left (by omega)]) (nm_r (nI_1 i) H)⟩)
theorem ip_awarded {l0 l1 m : Nat} (h50 : a5 0 = nI l0) (h51 : a5 1 = nI l1) (hl0 : l0 ≤ 1000) (hl1 : l1 ≤ 1000) (hm : m ≤ 1000)
    (H : post (nI (min l0 m + min l1 m))) : wpX_awarded post (2, p, o, a1, a2, a3, a4, a5, a6) (nI m) :=
  ⟨3, ip_aw4 (s := 0) (i := 0) (by omega) h50 hl0 hm (ip_aw4 (i := 1) (by omega) h51 hl1 hm (pk_le 2 2 (fun _ => by rw [Nat.zero_add]; exact H) (fun z => absurd z (by omega))))⟩
end
section
variable {post : St2 → Prop} {p o : Int32} {a1 a2 a3 a4 a5 a6 : Nat → Int32}
/-! award: its last loop -/
theorem ip_aw131 {J : Int32 → Int32 → (Nat → Int32) → (Nat → Int32) → (Nat → Int32) → (Nat → Int32) → (Nat → Int32) → (Nat → Int32) → Prop} {x2 : Int32} {r i k w g : Nat} (hi : i < 2) (hk : k ≤ 1) (hr : k ≤ r)
    (H : J (nI (r - k)) (nI (i + 1)) a1 a2 a3 (upd a4 i (nI (g + (w + k)))) a5 a6) : wX_award_131 post J x2 (nI r) (nI i) (nI k) (nI w) (nI g) (nI i) 2 p o a1 a2 a3 a4 a5 a6 := by
  have ci := ip_cl i (by omega)
  refine pk_eq k 0 (fun z => ?_) (fun z => ?_)
  · subst z
    exact ⟨pk_in i 8 (by omega), nm_r (show upd a4 (nI i).toNatClampNeg (nI g + (nI w + nI 0)) = upd a4 i (nI (g + (w + 0))) by rw [ci, nI_add, nI_add]) (br_t rfl (nm_r (ip_s0 r) (nm_r (nI_1 i) H)))⟩
  · have e : k = 1 := by omega
    subst e
    exact ⟨pk_in i 8 (by omega), nm_r (show upd a4 (nI i).toNatClampNeg (nI g + (nI w + nI 1)) = upd a4 i (nI (g + (w + 1))) by rw [ci, nI_add, nI_add]) (br_f (by decide) (nm_r (ip_s1 hr) (nm_r (nI_1 i) H)))⟩
theorem ip_aw99 {J : Int32 → Int32 → (Nat → Int32) → (Nat → Int32) → (Nat → Int32) → (Nat → Int32) → (Nat → Int32) → (Nat → Int32) → Prop} {m l g r i k : Nat} (hi : i < 2) (hl : a5 i = nI l) (hg : a4 i = nI g) (hk : k ≤ 1) (hr : k ≤ r) (hb : l ≤ 1000) (hm : m ≤ 1000)
    (H : J (nI (r - k)) (nI (i + 1)) a1 a2 a3 (upd a4 i (nI (g + (min l m + k)))) a5 a6) : wX_award_99 post J (nI m) (nI r) (nI i) (nI k) 2 p o a1 a2 a3 a4 a5 a6 := by
  unfold wX_award_99
  rw [ip_cl i (by omega), hl, hg]
  refine ⟨pk_in i 8 (by omega), pk_in i 8 (by omega), pk_le m l (fun z => ?_) (fun z => ⟨pk_in i 8 (by omega), ?_⟩)⟩
  · rw [Nat.min_eq_right z] at H
    exact ip_aw131 hi hk hr H
  · rw [Nat.min_eq_left (show l ≤ m by omega)] at H
    exact ip_aw131 hi hk hr H
theorem ip_aw69 {n m l g r i : Nat} (hi : i < 2) (hl : a5 i = nI l) (hg : a4 i = nI g) (hb : l ≤ 1000) (hm : m ≤ 1000) (hr : r ≤ 1000)
    (H : wX_award_69 post (nI m) 2 p o n (nI (r - ip_k m l r)) (nI (i + 1)) a1 a2 a3 (upd a4 i (nI (g + (min l m + ip_k m l r)))) a5 a6) : wX_award_69 post (nI m) 2 p o (n + 1) (nI r) (nI i) a1 a2 a3 a4 a5 a6 := by
  have c := ip_k_c m l r
  generalize ip_k m l r = k at c H
  refine pk_le 2 i (fun z => absurd z (by omega)) (fun _ => ⟨pk_in i 8 (by omega), ?_⟩)
  rw [ip_cl i (by omega), hl]
  refine pk_le l m (fun z => ?_) (fun z => pk_le r 0 (fun z2 => ?_) (fun z2 => ?_))
  · have e : k = 0 := by omega
    subst e
    exact ip_aw99 (k := 0) hi hl hg (by omega) (by omega) hb hm H
  · have e : k = 0 := by omega
    subst e
    exact ip_aw99 (k := 0) hi hl hg (by omega) (by omega) hb hm H
  · have e : k = 1 := by omega
    subst e
    exact ip_aw99 (k := 1) hi hl hg (by omega) (by omega) hb hm H
/-! award: the halving -/
theorem ip_aw9 {u l0 l1 : Nat} (h50 : a5 0 = nI l0) (h51 : a5 1 = nI l1) (hl0 : l0 ≤ 1000) (hl1 : l1 ≤ 1000) (hu : u ≤ 2000)
    (H : ∀ m, m ≤ 150 → min l0 m + min l1 m ≤ u → (m = 150 ∨ u < min l0 (m + 1) + min l1 (m + 1)) → wX_award_57 post (nI u) (nI m) 2 p o a1 a2 a3 a4 a5 a6) :
    ∀ c k lo hi, c + k = 9 → lo ≤ hi → hi ≤ 150 → hi - lo < 2 ^ c → min l0 lo + min l1 lo ≤ u → (hi = 150 ∨ u < min l0 (hi + 1) + min l1 (hi + 1)) → wX_award_9 post (nI u) 2 p o a1 a2 a3 a4 a5 a6 (c + 1) (nI lo) (nI hi) (nI k)
  | 0, k, lo, hi, hk, h1, h2, h3, h4, h5 => by
    have e : lo = hi := by
      have : (2 : Nat) ^ 0 = 1 := rfl
      omega
    subst e
    exact pk_le 9 k (fun _ => H lo h2 h4 h5) (fun z => absurd z (by omega))
  | c + 1, k, lo, hi, hk, h1, h2, h3, h4, h5 => by
    have hp : (2 : Nat) ^ (c + 1) = 2 ^ c * 2 := Nat.pow_succ 2 c
    refine pk_le 9 k (fun z => absurd z (by omega)) (fun _ => pk_le hi lo (fun z => ?_) (fun z => ?_))
    · have e : lo = hi := by omega
      subst e
      exact H lo h2 h4 h5
    · refine nm_r (show (nI lo + nI hi + 1) >>> ((1 : Int32) &&& 31) = nI ((lo + hi + 1) / 2) by rw [nI_add, nI_1, ip_half (by omega)]) ?_
      refine ip_awarded h50 h51 hl0 hl1 (by omega) (pk_lt u _ (fun z2 => ?_) (fun z2 => ?_))
      · refine nm_r (ip_s1 (by omega)) (nm_r (nI_1 k) ?_)
        refine ip_aw9 h50 h51 hl0 hl1 hu H c (k + 1) lo ((lo + hi + 1) / 2 - 1) (by omega) (by omega) (by omega) (by omega) h4 (Or.inr ?_)
        rw [show (lo + hi + 1) / 2 - 1 + 1 = (lo + hi + 1) / 2 by omega]
        exact z2
      · refine nm_r (nI_1 k) ?_
        exact ip_aw9 h50 h51 hl0 hl1 hu H c (k + 1) ((lo + hi + 1) / 2) hi (by omega) (by omega) (by omega) (by omega) z2 h5
theorem ip_award {u l0 l1 g0 g1 : Nat} (h50 : a5 0 = nI l0) (h51 : a5 1 = nI l1) (h40 : a4 0 = nI g0) (h41 : a4 1 = nI g1) (hl0 : l0 ≤ 150) (hl1 : l1 ≤ 150) (hu : u ≤ l0 + l1)
    (H : ∀ a4' : Nat → Int32, a4' 0 = nI (g0 + ip_aw l0 l1 u) → a4' 1 = nI (g1 + (u - ip_aw l0 l1 u)) → post (2, p, o, a1, a2, a3, a4', a5, a6)) : wpX_award post (2, p, o, a1, a2, a3, a4, a5, a6) (nI u) := by
  refine ⟨10, ip_aw9 h50 h51 (by omega) (by omega) (by omega) (fun m hm ha hb => ?_) 9 0 0 150 rfl (by omega) (by omega) (by decide) (by omega) (Or.inl rfl)⟩
  have lv := ip_aw_lv hu hl0 hl1 ha hb
  unfold wX_award_57
  refine ip_awarded h50 h51 (by omega) (by omega) (by omega) (nm_r (pk_sub ha) ⟨3, ?_⟩)
  refine ip_aw69 (i := 0) (by omega) h50 h40 (by omega) (by omega) (by omega) ?_
  refine ip_aw69 (i := 1) (g := g1) (by omega) h51 h41 (by omega) (by omega) (by omega) ?_
  rw [lv.1, lv.2]
  exact pk_le 2 2 (fun _ => H _ ip_u0 ip_u1) (fun z => absurd z (by omega))
end
end
section
section
variable {post : Int32 → Prop} {p o : Int32} {a1 a2 a3 a4 a5 a6 : Nat → Int32}
/-! lost -/
theorem ip_lo4 {n m l s i : Nat} (hi : i < 2) (hl : a5 i = nI l) (hb : l ≤ 1000) (hm : m ≤ 1000)
    (H : wX_lost_4 post (nI m) 2 p o a1 a2 a3 a4 a5 a6 n (nI (s + (l - m))) (nI (i + 1))) : wX_lost_4 post (nI m) 2 p o a1 a2 a3 a4 a5 a6 (n + 1) (nI s) (nI i) := by
  refine pk_le 2 i (fun z => absurd z (by omega)) (fun _ => ⟨pk_in i 8 (by omega), ?_⟩)
  rw [ip_cl i (by omega), hl]
  exact pk_le l m (fun z => nm_r (show nI s + 0 = nI (s + (l - m)) by rw [ip_a0, show s + (l - m) = s by omega]) (nm_r (nI_1 i) H))
    (fun z => ⟨pk_in i 8 (by omega), nm_r (show nI s + (nI l - nI m) = nI (s + (l - m)) by rw [pk_sub (by omega), nI_add]) (nm_r (nI_1 i) H)⟩)
theorem ip_lost {l0 l1 m : Nat} (h50 : a5 0 = nI l0) (h51 : a5 1 = nI l1) (hl0 : l0 ≤ 1000) (hl1 : l1 ≤ 1000) (hm : m ≤ 1000)
    (H : post (nI (l0 - m + (l1 - m)))) : wpX_lost post (2, p, o, a1, a2, a3, a4, a5, a6) (nI m) :=
  ⟨3, ip_lo4 (s := 0) (i := 0) (by omega) h50 hl0 hm (ip_lo4 (i := 1) (by omega) h51 hl1 hm (pk_le 2 2 (fun _ => by rw [Nat.zero_add]; exact H) (fun z => absurd z (by omega))))⟩
end
section
variable {post : St2 → Prop} {p o : Int32} {a1 a2 a3 a4 a5 a6 : Nat → Int32}
/-! lose: its last loop -/
theorem ip_lo145 {J : Int32 → Int32 → (Nat → Int32) → (Nat → Int32) → (Nat → Int32) → (Nat → Int32) → (Nat → Int32) → (Nat → Int32) → Prop} {x2 : Int32} {r i k w g : Nat} (hi : i < 2) (hk : k ≤ 1) (hr : k ≤ r)
    (H : J (nI (r - k)) (nI (i + 1)) a1 a2 a3 (upd a4 i (nI (g + (w + k)))) a5 a6) : wX_lose_145 post J x2 (nI r) (nI i) (nI k) (nI w) (nI g) (nI i) 2 p o a1 a2 a3 a4 a5 a6 := by
  have ci := ip_cl i (by omega)
  refine pk_eq k 0 (fun z => ?_) (fun z => ?_)
  · subst z
    exact ⟨pk_in i 8 (by omega), nm_r (show upd a4 (nI i).toNatClampNeg (nI g + (nI w + nI 0)) = upd a4 i (nI (g + (w + 0))) by rw [ci, nI_add, nI_add]) (br_t rfl (nm_r (ip_s0 r) (nm_r (nI_1 i) H)))⟩
  · have e : k = 1 := by omega
    subst e
    exact ⟨pk_in i 8 (by omega), nm_r (show upd a4 (nI i).toNatClampNeg (nI g + (nI w + nI 1)) = upd a4 i (nI (g + (w + 1))) by rw [ci, nI_add, nI_add]) (br_f (by decide) (nm_r (ip_s1 hr) (nm_r (nI_1 i) H)))⟩
theorem ip_lo111 {J : Int32 → Int32 → (Nat → Int32) → (Nat → Int32) → (Nat → Int32) → (Nat → Int32) → (Nat → Int32) → (Nat → Int32) → Prop} {m l g r i k : Nat} (hi : i < 2) (hl : a5 i = nI l) (hg : a4 i = nI g) (hk : k ≤ 1) (hr : k ≤ r) (hb : l ≤ 1000) (hm : m ≤ 1000)
    (H : J (nI (r - k)) (nI (i + 1)) a1 a2 a3 (upd a4 i (nI (g + (l - m + k)))) a5 a6) : wX_lose_111 post J (nI m) (nI r) (nI i) (nI k) 2 p o a1 a2 a3 a4 a5 a6 := by
  unfold wX_lose_111
  rw [ip_cl i (by omega), hl, hg]
  refine ⟨pk_in i 8 (by omega), pk_in i 8 (by omega), pk_le l m (fun z => ?_) (fun z => ⟨pk_in i 8 (by omega), ?_⟩)⟩
  · rw [show l - m = 0 by omega] at H
    exact ip_lo145 (w := 0) hi hk hr H
  · rw [pk_sub (show m ≤ l by omega)]
    exact ip_lo145 hi hk hr H
theorem ip_lo67 {n m l g r i : Nat} (hi : i < 2) (hl : a5 i = nI l) (hg : a4 i = nI g) (hb : l ≤ 1000) (hm : m ≤ 1000) (hr : r ≤ 1000)
    (H : wX_lose_67 post (nI m) 2 p o n (nI (r - ip_kl m l r)) (nI (i + 1)) a1 a2 a3 (upd a4 i (nI (g + (l - m + ip_kl m l r)))) a5 a6) : wX_lose_67 post (nI m) 2 p o (n + 1) (nI r) (nI i) a1 a2 a3 a4 a5 a6 := by
  have c := ip_kl_c m l r
  generalize ip_kl m l r = k at c H
  have K0 : k = 0 → wX_lose_110 post (wX_lose_67 post (nI m) 2 p o n) (nI m) (nI r) (nI i) 2 p o a1 a2 a3 a4 a5 a6 := by
    intro e
    subst e
    exact ip_lo111 (k := 0) hi hl hg (by omega) (by omega) hb hm H
  refine pk_le 2 i (fun z => absurd z (by omega)) (fun _ => ⟨pk_in i 8 (by omega), ?_⟩)
  rw [ip_cl i (by omega), hl]
  refine pk_lt l m (fun z => K0 (by omega)) (fun z => ⟨pk_in i 8 (by omega), pk_le l 0 (fun z2 => K0 (by omega)) (fun z2 => pk_le m 0 (fun z3 => K0 (by omega)) (fun z3 => pk_le r 0 (fun z4 => K0 (by omega)) (fun z4 => ?_)))⟩)
  have e : k = 1 := by omega
  subst e
  exact ip_lo111 (k := 1) hi hl hg (by omega) (by omega) hb hm H
/-! lose: the halving -/
theorem ip_lo9 {u l0 l1 : Nat} (h50 : a5 0 = nI l0) (h51 : a5 1 = nI l1) (hl0 : l0 ≤ 1000) (hl1 : l1 ≤ 1000) (hu : u ≤ 2000)
    (H : ∀ m, m ≤ 150 → l0 - m + (l1 - m) ≤ u → (m = 0 ∨ u < l0 - (m - 1) + (l1 - (m - 1))) → wX_lose_55 post (nI u) (nI m) 2 p o a1 a2 a3 a4 a5 a6) :
    ∀ c k lo hi, c + k = 9 → lo ≤ hi → hi ≤ 150 → hi - lo < 2 ^ c → l0 - hi + (l1 - hi) ≤ u → (lo = 0 ∨ u < l0 - (lo - 1) + (l1 - (lo - 1))) → wX_lose_9 post (nI u) 2 p o a1 a2 a3 a4 a5 a6 (c + 1) (nI lo) (nI hi) (nI k)
  | 0, k, lo, hi, hk, h1, h2, h3, h4, h5 => by
    have e : lo = hi := by
      have : (2 : Nat) ^ 0 = 1 := rfl
      omega
    subst e
    exact pk_le 9 k (fun _ => H lo h2 h4 h5) (fun z => absurd z (by omega))
  | c + 1, k, lo, hi, hk, h1, h2, h3, h4, h5 => by
    have hp : (2 : Nat) ^ (c + 1) = 2 ^ c * 2 := Nat.pow_succ 2 c
    refine pk_le 9 k (fun z => absurd z (by omega)) (fun _ => pk_le hi lo (fun z => ?_) (fun z => ?_))
    · have e : lo = hi := by omega
      subst e
      exact H lo h2 h4 h5
    · refine nm_r (show (nI lo + nI hi) >>> ((1 : Int32) &&& 31) = nI ((lo + hi) / 2) by rw [nI_add, ip_half (by omega)]) ?_
      refine ip_lost h50 h51 hl0 hl1 (by omega) (pk_lt u _ (fun z2 => ?_) (fun z2 => ?_))
      · refine nm_r (nI_1 _) (nm_r (nI_1 k) ?_)
        refine ip_lo9 h50 h51 hl0 hl1 hu H c (k + 1) ((lo + hi) / 2 + 1) hi (by omega) (by omega) (by omega) (by omega) h4 (Or.inr ?_)
        rw [Nat.add_sub_cancel]
        exact z2
      · refine nm_r (nI_1 k) ?_
        exact ip_lo9 h50 h51 hl0 hl1 hu H c (k + 1) lo ((lo + hi) / 2) (by omega) (by omega) (by omega) (by omega) z2 h5
theorem ip_lose {u l0 l1 g0 g1 : Nat} (h50 : a5 0 = nI l0) (h51 : a5 1 = nI l1) (h40 : a4 0 = nI g0) (h41 : a4 1 = nI g1) (hl0 : l0 ≤ 150) (hl1 : l1 ≤ 150) (hu : u ≤ l0 + l1)
    (H : ∀ a4' : Nat → Int32, a4' 0 = nI (g0 + ip_lo l0 l1 u) → a4' 1 = nI (g1 + (u - ip_lo l0 l1 u)) → post (2, p, o, a1, a2, a3, a4', a5, a6)) : wpX_lose post (2, p, o, a1, a2, a3, a4, a5, a6) (nI u) := by
  refine ⟨10, ip_lo9 h50 h51 (by omega) (by omega) (by omega) (fun m hm ha hb => ?_) 9 0 0 150 rfl (by omega) (by omega) (by decide) (by omega) (Or.inl rfl)⟩
  have lv := ip_lo_lv hu ha hb
  unfold wX_lose_55
  refine ip_lost h50 h51 (by omega) (by omega) (by omega) (nm_r (pk_sub ha) ⟨3, ?_⟩)
  refine ip_lo67 (i := 0) (by omega) h50 h40 (by omega) (by omega) (by omega) ?_
  refine ip_lo67 (i := 1) (g := g1) (by omega) h51 h41 (by omega) (by omega) (by omega) ?_
  rw [lv.1, lv.2]
  exact pk_le 2 2 (fun _ => H _ ip_u0 ip_u1) (fun z => absurd z (by omega))
end
end
section
section
variable {p o : Int32} {a1 a2 a3 a4 a5 a6 : Nat → Int32}
/-! quotas: the greater quotient -/
theorem ip_gr {post : Int32 → Prop} {x y q0 q1 : Nat} (h10 : a1 0 = nI x) (h11 : a1 1 = nI y) (h40 : a4 0 = nI q0) (h41 : a4 1 = nI q1) (hx : x ≤ 1000) (hy : y ≤ 1000) (hq0 : q0 ≤ 1000) (hq1 : q1 ≤ 1000)
    (H0 : y * (q0 + 1) ≤ x * (q1 + 1) → post 0) (H1 : ¬ y * (q0 + 1) ≤ x * (q1 + 1) → post 1) : wpX_isGreater post (2, p, o, a1, a2, a3, a4, a5, a6) (nI 1) (nI 0) := by
  have b0 : y * (q0 + 1) ≤ 1000 * 1001 := Nat.mul_le_mul hy (by omega)
  have b1 : x * (q1 + 1) ≤ 1000 * 1001 := Nat.mul_le_mul hx (by omega)
  refine ⟨pk_in 1 8 (by omega), pk_in 0 8 (by omega), pk_in 0 8 (by omega), pk_in 1 8 (by omega), ?_⟩
  rw [ip_cl 1 (by omega), ip_cl 0 (by omega), h10, h11, h40, h41, nI_1 q0, nI_1 q1, pk_mul y (q0 + 1), pk_mul x (q1 + 1)]
  exact pk_le (y * (q0 + 1)) (x * (q1 + 1)) H0 (fun z => H1 (by omega))
end
section
variable {post : St2 → Prop} {p o : Int32} {a1 a2 a3 a4 a5 a6 : Nat → Int32}
variable {J : Int32 → Int32 → (Nat → Int32) → (Nat → Int32) → (Nat → Int32) → (Nat → Int32) → (Nat → Int32) → (Nat → Int32) → Prop}
/-! quotas: the unit that is left -/
theorem ip_quE {b q n : Nat} (hb : b < 2) (h4 : a4 b = nI q) (H : J (nI 0) (nI 1) a1 a2 a3 (upd a4 b (nI (q + 1))) a5 a6) : wX_quotas_87 post J 2 (nI 1) (nI 0) 2 p o a1 a2 a3 a4 a5 a6 (n + 1) (nI b) (nI 2) := by
  refine pk_le 2 2 (fun _ => pk_lt b 0 (fun z => absurd z (by omega)) (fun _ => ⟨pk_in b 8 (by omega), pk_in b 8 (by omega), nm_r ?_ (nm_r (pk_m1 0) (nm_r (nI_1 0) H))⟩)) (fun z => absurd z (by omega))
  rw [ip_cl b (by omega), h4, nI_1]
theorem ip_qu87 {x y q0 q1 : Nat} (h10 : a1 0 = nI x) (h11 : a1 1 = nI y) (h20 : a2 0 = 2) (h21 : a2 1 = 2) (h40 : a4 0 = nI q0) (h41 : a4 1 = nI q1) (hx : x ≤ 1000) (hy : y ≤ 1000) (hq0 : q0 ≤ 1000) (hq1 : q1 ≤ 1000) (hq : q0 < x ∨ q1 < y)
    (H0 : q0 < x ∧ (y ≤ q1 ∨ y * (q0 + 1) ≤ x * (q1 + 1)) → J (nI 0) (nI 1) a1 a2 a3 (upd a4 0 (nI (q0 + 1))) a5 a6)
    (H1 : ¬ (q0 < x ∧ (y ≤ q1 ∨ y * (q0 + 1) ≤ x * (q1 + 1))) → J (nI 0) (nI 1) a1 a2 a3 (upd a4 1 (nI (q1 + 1))) a5 a6) :
    wX_quotas_87 post J 2 (nI 1) (nI 0) 2 p o a1 a2 a3 a4 a5 a6 3 (-1) (nI 0) := by
  refine pk_le 2 0 (fun z => absurd z (by omega)) (fun _ => ⟨pk_in 0 8 (by omega), ?_⟩)
  rw [ip_cl 0 (by omega), h10, h40]
  refine br_t h20 ⟨pk_in 0 8 (by omega), pk_in 0 8 (by omega), pk_le x q0 (fun z => nm_r (nI_1 0) ?_) (fun z => br_t (by decide) (nm_r (nI_1 0) ?_))⟩
  · refine pk_le 2 1 (fun z => absurd z (by omega)) (fun _ => ⟨pk_in 1 8 (by omega), ?_⟩)
    rw [ip_cl (0 + 1) (by omega), h11, h41]
    exact br_t h21 ⟨pk_in 1 8 (by omega), pk_in 1 8 (by omega), pk_le y q1 (fun z2 => absurd z2 (by omega)) (fun z2 => br_t (by decide) (nm_r (nI_1 1) (ip_quE (b := 1) (by omega) h41 (H1 (fun t => absurd t.1 (by omega))))))⟩
  · refine pk_le 2 1 (fun z => absurd z (by omega)) (fun _ => ⟨pk_in 1 8 (by omega), ?_⟩)
    rw [ip_cl (0 + 1) (by omega), h11, h41]
    refine br_t h21 ⟨pk_in 1 8 (by omega), pk_in 1 8 (by omega), pk_le y q1 (fun z2 => nm_r (nI_1 1) (ip_quE (b := 0) (by omega) h40 (H0 ⟨z, Or.inl z2⟩))) (fun z2 => pk_lt 0 0 (fun z3 => absurd z3 (by omega)) (fun _ => ?_))⟩
    refine ip_gr h10 h11 h40 h41 hx hy hq0 hq1 (fun t => br_t rfl (nm_r (nI_1 1) (ip_quE (b := 0) (by omega) h40 (H0 ⟨z, Or.inr t⟩)))) (fun t => br_f (by decide) (nm_r (nI_1 1) (ip_quE (b := 1) (by omega) h41 (H1 (fun t2 => ?_)))))
    rcases t2.2 with t3 | t3
    · omega
    · exact t t3
theorem ip_qu69 {n k : Nat} (hk : k < 8) (H : post (2, p, o, a1, a2, a3, a4, a5, a6)) : wX_quotas_69 post 2 2 p o (n + 1) (nI 0) (nI k) a1 a2 a3 a4 a5 a6 :=
  pk_le 8 k (fun z => absurd z (by omega)) (fun _ => pk_le 0 0 (fun _ => H) (fun z => absurd z (by omega)))
/-! quotas: rounded down -/
theorem ip_qu6 {n r i w u s : Nat} (hi : i < 2) (h1 : a1 i = nI w) (h2 : a2 i = 2) (hs : 0 < s) (hsb : s ≤ 1000) (hu : u ≤ 1000) (hw : w ≤ 1000) (hq : u * w / s ≤ r)
    (H : wX_quotas_6 post 2 (nI u) (nI s) 2 p o n (nI (r - u * w / s)) (nI (i + 1)) a1 a2 a3 (upd a4 i (nI (u * w / s))) a5 a6) : wX_quotas_6 post 2 (nI u) (nI s) 2 p o (n + 1) (nI r) (nI i) a1 a2 a3 a4 a5 a6 := by
  have b : u * w ≤ 1000 * 1000 := Nat.mul_le_mul hu hw
  refine pk_le 2 i (fun z => absurd z (by omega)) (fun _ => ⟨pk_in i 8 (by omega), ?_⟩)
  rw [ip_cl i (by omega), h1]
  refine br_t h2 (pk_le s 0 (fun z => absurd z (by omega)) (fun z => ⟨pk_in i 8 (by omega), nI_ne0 hs (by omega), pk_in i 8 (by omega), nm_r (e' := upd a4 i (nI (u * w / s))) ?_ ⟨pk_in i 8 (by omega), nm_r (e' := nI (r - u * w / s)) ?_ (nm_r (nI_1 i) H)⟩⟩))
  · rw [pk_mul, pk_div (by omega) hs (by omega)]
  · rw [pk_us, pk_sub hq]
theorem ip_qu6z {n i : Nat} {x2 x4 : Int32} (hi : i < 2) (h2 : a2 i = 2)
    (H : wX_quotas_6 post 2 x2 (nI 0) 2 p o n x4 (nI (i + 1)) a1 a2 a3 a4 a5 a6) : wX_quotas_6 post 2 x2 (nI 0) 2 p o (n + 1) x4 (nI i) a1 a2 a3 a4 a5 a6 := by
  refine pk_le 2 i (fun z => absurd z (by omega)) (fun _ => ⟨pk_in i 8 (by omega), ?_⟩)
  rw [ip_cl i (by omega)]
  exact br_t h2 (pk_le 0 0 (fun _ => nm_r (nI_1 i) H) (fun z => absurd z (by omega)))
theorem ip_quotas {x y u : Nat} (h10 : a1 0 = nI x) (h11 : a1 1 = nI y) (h20 : a2 0 = 2) (h21 : a2 1 = 2) (h40 : a4 0 = nI 0) (h41 : a4 1 = nI 0) (hx : x ≤ 127) (hy : y ≤ 127) (hu : u ≤ x + y)
    (H : ∀ a4' : Nat → Int32, a4' 0 = nI (ip_qu x y u) → a4' 1 = nI (u - ip_qu x y u) → post (2, p, o, a1, a2, a3, a4', a5, a6)) : wpX_quotas post (2, p, o, a1, a2, a3, a4, a5, a6) 2 (nI u) (nI (x + y)) := by
  rcases Nat.eq_zero_or_pos (x + y) with z | z
  · have ex : x = 0 := by omega
    have ey : y = 0 := by omega
    have eu : u = 0 := by omega
    subst ex ey eu
    exact ⟨3, ip_qu6z (i := 0) (by omega) h20 (ip_qu6z (i := 1) (by omega) h21 (pk_le 2 2 (fun _ => ⟨1, ip_qu69 (k := 0) (by omega) (H a4 h40 h41)⟩) (fun z => absurd z (by omega))))⟩
  · have q := ip_q z hu
    have eG : ip_qu x y u = ip_qr x y u (u * x / (x + y)) (u * y / (x + y)) := rfl
    rw [eG] at H
    refine ⟨3, ip_qu6 (i := 0) (by omega) h10 h20 z (by omega) (by omega) (by omega) (Nat.le_trans (Nat.le_add_right _ _) q.2.2.1) (ip_qu6 (i := 1) (by omega) h11 h21 z (by omega) (by omega) (by omega) (by omega) ?_)⟩
    generalize u * x / (x + y) = q0 at *
    generalize u * y / (x + y) = q1 at *
    refine pk_le 2 2 (fun _ => ?_) (fun z => absurd z (by omega))
    unfold ip_qr at H
    by_cases c : u ≤ q0 + q1
    · rw [if_pos c] at H
      rw [show u - q0 - q1 = 0 by omega]
      refine ⟨1, ip_qu69 (k := 0) (by omega) (H _ ip_u0 ?_)⟩
      rw [ip_u1, show u - q0 = q1 by omega]
    · rw [if_neg c] at H
      rw [show u - q0 - q1 = 1 by omega]
      refine ⟨2, pk_le 8 0 (fun z => absurd z (by omega)) (fun _ => pk_le 1 0 (fun z => absurd z (by omega)) (fun _ => ⟨3, ?_⟩))⟩
      refine ip_qu87 (q0 := q0) (q1 := q1) h10 h11 h20 h21 ip_u0 ip_u1 (by omega) (by omega) (by omega) (by omega) (by omega) (fun t => ?_) (fun t => ?_)
      · rw [if_pos t] at H
        refine ip_qu69 (k := 1) (by omega) (H _ rfl ?_)
        rw [pk_un (by decide), ip_u1, show u - (q0 + 1) = q1 by omega]
      · rw [if_neg t] at H
        refine ip_qu69 (k := 1) (by omega) (H _ ?_ ?_)
        · rw [pk_un (by decide), ip_u0]
        · rw [pk_us, show u - q0 = q1 + 1 by omega]
end
end
section
/-- the state: two creditors of rank 2, the rule of rank 2 -/
def ip_K (x y rl : Nat) (a1 a2 a3 : Nat → Int32) : Prop := (x ≤ 127 ∧ y ≤ 127 ∧ rl ≤ 3) ∧ (a1 0 = nI x ∧ a1 1 = nI y ∧ a2 0 = 2 ∧ a2 1 = 2) ∧ (a3 0 = 0 ∧ a3 1 = 0 ∧ a3 2 = nI rl ∧ a3 3 = 0)
theorem ip_ne {r : Nat} (hr : r < 4) (hn : r ≠ 2) {v : Int32} (h : v = 2) : ¬ v = nI r := by
  rw [h]
  intro t
  exact hn ((nI_eq (a := r) (b := 2) (by omega) (by omega)).mp t.symm)
section
variable {post : Int32 → Prop} {p o : Int32} {a1 a2 a3 a4 a5 a6 : Nat → Int32}
/-! total, isRank, isRule, isCreditor -/
theorem ip_tot4 {r : Int32} {n s w i : Nat} (hi : i < 2) (h1 : a1 i = nI w) (h2 : a2 i = r) (H : wX_total_4 post r 2 p o a1 a2 a3 a4 a5 a6 n (nI (s + w)) (nI (i + 1))) : wX_total_4 post r 2 p o a1 a2 a3 a4 a5 a6 (n + 1) (nI s) (nI i) := by
  refine pk_le 2 i (fun z => absurd z (by omega)) (fun _ => ⟨pk_in i 8 (by omega), ?_⟩)
  rw [ip_cl i (by omega), h1]
  exact br_t h2 ⟨pk_in i 8 (by omega), nm_r (nI_add s w) (nm_r (nI_1 i) H)⟩
theorem ip_tot4f {r : Int32} {n s i : Nat} (hi : i < 2) (h2 : ¬ a2 i = r) (H : wX_total_4 post r 2 p o a1 a2 a3 a4 a5 a6 n (nI s) (nI (i + 1))) : wX_total_4 post r 2 p o a1 a2 a3 a4 a5 a6 (n + 1) (nI s) (nI i) := by
  refine pk_le 2 i (fun z => absurd z (by omega)) (fun _ => ⟨pk_in i 8 (by omega), ?_⟩)
  rw [ip_cl i (by omega)]
  exact br_f h2 (nm_r (ip_a0 s) (nm_r (nI_1 i) H))
theorem ip_total {r : Int32} {x y : Nat} (h10 : a1 0 = nI x) (h11 : a1 1 = nI y) (h20 : a2 0 = r) (h21 : a2 1 = r) (H : post (nI (x + y))) : wpX_total post (2, p, o, a1, a2, a3, a4, a5, a6) r :=
  ⟨3, ip_tot4 (s := 0) (i := 0) (by omega) h10 h20 (ip_tot4 (i := 1) (by omega) h11 h21 (pk_le 2 2 (fun _ => by rw [Nat.zero_add]; exact H) (fun z => absurd z (by omega))))⟩
theorem ip_totalf {r : Int32} (h20 : ¬ a2 0 = r) (h21 : ¬ a2 1 = r) (H : post (nI 0)) : wpX_total post (2, p, o, a1, a2, a3, a4, a5, a6) r :=
  ⟨3, ip_tot4f (s := 0) (i := 0) (by omega) h20 (ip_tot4f (i := 1) (by omega) h21 (pk_le 2 2 (fun _ => H) (fun z => absurd z (by omega))))⟩
theorem ip_isRank {r : Nat} (hr : r < 4) (H : post 1) : wpX_isRank post () (nI r) :=
  pk_lt r 0 (fun z => absurd z (by omega)) (fun _ => pk_le 4 r (fun z => absurd z (by omega)) (fun _ => H))
theorem ip_isRule {r : Nat} (hr : r ≤ 3) (H : post 1) : wpX_isRule post () (nI r) :=
  pk_lt r 0 (fun z => absurd z (by omega)) (fun _ => pk_lt 3 r (fun z => absurd z (by omega)) (fun _ => H))
theorem ip_cred {c : Nat} (hc : c < 2) (H : post 1) : wpX_isCreditor post (2, p, o, a1, a2, a3, a4, a5, a6) (nI c) :=
  pk_lt c 0 (fun z => absurd z (by omega)) (fun _ => pk_le 2 c (fun z => absurd z (by omega)) (fun _ => H))
end
section
variable {post : St2 → Prop} {p o : Int32} {a1 a2 a3 a4 a5 a6 : Nat → Int32}
/-! shareRank -/
theorem ip_sr0 {r g0 g1 : Nat} {s : Int32} (hr : r < 4) (hn : r ≠ 2) (h20 : a2 0 = 2) (h21 : a2 1 = 2) (h3 : a3 r = 0) (h40 : a4 0 = nI g0) (h41 : a4 1 = nI g1)
    (H : ∀ a4' a5' : Nat → Int32, a4' 0 = nI g0 → a4' 1 = nI g1 → post (2, p, o, a1, a2, a3, a4', a5', a6)) : wpX_shareRank post (2, p, o, a1, a2, a3, a4, a5, a6) (nI r) (nI 0) s := by
  refine ⟨pk_in r 4 hr, br_t (by rw [ip_cl r (by omega)]; exact h3) ?_⟩
  refine ip_tlf (ip_ne hr hn h20) (ip_ne hr hn h21) (fun a5' e0 e1 => ?_)
  exact ip_award (l0 := 0) (l1 := 0) (u := 0) e0 e1 h40 h41 (by omega) (by omega) (by omega) (fun a4' f0 f1 => H a4' a5' f0 f1)
theorem ip_sr86 {x y u : Nat} (h10 : a1 0 = nI x) (h11 : a1 1 = nI y) (h20 : a2 0 = 2) (h21 : a2 1 = 2) (hx : x ≤ 127) (hy : y ≤ 127) (h40 : a4 0 = nI 0) (h41 : a4 1 = nI 0) (hu : u ≤ x + y)
    (H : ∀ a4' a5' : Nat → Int32, a4' 0 = nI (ip_ha x y u) → a4' 1 = nI (u - ip_ha x y u) → post (2, p, o, a1, a2, a3, a4', a5', a6)) : wX_shareRank_86 post (nI 2) (nI u) (nI (ip_hf x y u)) 2 p o a1 a2 a3 a4 a5 a6 := by
  have b := ip_hh_b x y u
  have c := ip_ha_b hu
  unfold wX_shareRank_86
  refine ip_tlh h10 h11 h20 h21 h40 h41 (by omega) (by omega) (by omega) (by omega) (fun a5' e0 e1 => ?_)
  refine ip_award (l0 := (x + 1) / 2) (l1 := (y + 1) / 2) e0 e1 h40 h41 (by omega) (by omega) (by omega) (fun a4' f0 f1 => ?_)
  rw [Nat.zero_add] at f0 f1
  refine ip_tl (g0 := ip_hh x y u) (g1 := ip_hf x y u - ip_hh x y u) h10 h11 h20 h21 f0 f1 c.1 c.2.1 (fun a5'' e0' e1' => ?_)
  show wpX_lose _ _ (nI u - nI (ip_hf x y u))
  rw [pk_sub b.1]
  refine ip_lose e0' e1' f0 f1 (by omega) (by omega) c.2.2.1 (fun a4'' k0 k1 => H a4'' a5'' k0 ?_)
  rw [k1]
  congr 1
  have t := c.2.2.2.1
  show _ = u - (ip_hh x y u + ip_lo (x - ip_hh x y u) (y - (ip_hf x y u - ip_hh x y u)) (u - ip_hf x y u))
  change ip_hf x y u - ip_hh x y u + (u - ip_hf x y u - ip_lo (x - ip_hh x y u) (y - (ip_hf x y u - ip_hh x y u)) (u - ip_hf x y u)) = _
  omega
theorem ip_sr2 {x y rl u : Nat} (K : ip_K x y rl a1 a2 a3) (h40 : a4 0 = nI 0) (h41 : a4 1 = nI 0) (hu : u ≤ x + y)
    (H : ∀ a4' a5' : Nat → Int32, a4' 0 = nI (ip_G rl x y u) → a4' 1 = nI (u - ip_G rl x y u) → post (2, p, o, a1, a2, a3, a4', a5', a6)) : wpX_shareRank post (2, p, o, a1, a2, a3, a4, a5, a6) (nI 2) (nI u) (nI (x + y)) := by
  obtain ⟨⟨hx, hy, hr⟩, ⟨h10, h11, h20, h21⟩, h30, h31, h32, h33⟩ := K
  unfold ip_G at H
  refine ⟨pk_in 2 4 (by omega), ?_⟩
  rw [ip_cl 2 (by omega), h32]
  refine pk_eq rl 0 (fun z => ?_) (fun z => ⟨pk_in 2 4 (by omega), pk_eq rl 1 (fun z1 => ?_) (fun z1 => ⟨pk_in 2 4 (by omega), pk_eq rl 2 (fun z2 => ?_) (fun z2 => ?_)⟩)⟩)
  · rw [if_pos z] at H
    refine ip_tl h10 h11 h20 h21 h40 h41 (Nat.zero_le _) (Nat.zero_le _) (fun a5' e0 e1 => ?_)
    refine ip_award (l0 := x) (l1 := y) e0 e1 h40 h41 (by omega) (by omega) hu (fun a4' f0 f1 => ?_)
    rw [Nat.zero_add] at f0 f1
    exact H a4' a5' f0 f1
  · rw [if_neg z, if_pos z1] at H
    refine ip_tl h10 h11 h20 h21 h40 h41 (Nat.zero_le _) (Nat.zero_le _) (fun a5' e0 e1 => ?_)
    refine ip_lose (l0 := x) (l1 := y) e0 e1 h40 h41 (by omega) (by omega) hu (fun a4' f0 f1 => ?_)
    rw [Nat.zero_add] at f0 f1
    exact H a4' a5' f0 f1
  · rw [if_neg z, if_neg z1, if_pos z2] at H
    exact ip_quotas h10 h11 h20 h21 h40 h41 hx hy hu (fun a4' f0 f1 => H a4' a5 f0 f1)
  · rw [if_neg z, if_neg z1, if_neg z2] at H
    have key := ip_sr86 (post := post) (p := p) (o := o) (a3 := a3) (a5 := a5) (a6 := a6) h10 h11 h20 h21 hx hy h40 h41 hu H
    refine nm_r (e' := nI ((x + y + 1) / 2)) (by rw [nI_1, ip_half (by omega)]) (pk_le ((x + y + 1) / 2) u (fun z3 => ?_) (fun z3 => ?_))
    · rw [show ip_hf x y u = (x + y + 1) / 2 by unfold ip_hf; omega] at key
      exact key
    · rw [show ip_hf x y u = u by unfold ip_hf; omega] at key
      exact key
/-! shareOut -/
theorem ip_so0 {n r e g0 g1 : Nat} (hr : r < 4) (hn : r ≠ 2) (he : e ≤ 1000) (h20 : a2 0 = 2) (h21 : a2 1 = 2) (h3 : a3 r = 0) (h40 : a4 0 = nI g0) (h41 : a4 1 = nI g1)
    (H : ∀ a4' a5' : Nat → Int32, a4' 0 = nI g0 → a4' 1 = nI g1 → wX_shareOut_27 post n (nI e) (nI (r + 1)) 2 p o a1 a2 a3 a4' a5' a6) : wX_shareOut_27 post (n + 1) (nI e) (nI r) 2 p o a1 a2 a3 a4 a5 a6 := by
  refine pk_le 4 r (fun z => absurd z (by omega)) (fun _ => ip_totalf (ip_ne hr hn h20) (ip_ne hr hn h21) (pk_le 0 e (fun z => ?_) (fun z => absurd z (by omega))))
  unfold wX_shareOut_51
  exact ip_sr0 hr hn h20 h21 h3 h40 h41 (fun a4' a5' f0 f1 => nm_r (ip_s0 e) (nm_r (nI_1 r) (H a4' a5' f0 f1)))
theorem ip_so2 {n e x y rl : Nat} (K : ip_K x y rl a1 a2 a3) (he : e ≤ 1000) (h40 : a4 0 = nI 0) (h41 : a4 1 = nI 0)
    (H : ∀ a4' a5' : Nat → Int32, a4' 0 = nI (ip_G rl x y (min e (x + y))) → a4' 1 = nI (min e (x + y) - ip_G rl x y (min e (x + y))) → wX_shareOut_27 post n (nI (e - min e (x + y))) (nI (2 + 1)) 2 p o a1 a2 a3 a4' a5' a6) : wX_shareOut_27 post (n + 1) (nI e) (nI 2) 2 p o a1 a2 a3 a4 a5 a6 := by
  have K' := K
  obtain ⟨⟨hx, hy, hr⟩, ⟨h10, h11, h20, h21⟩, h30, h31, h32, h33⟩ := K
  refine pk_le 4 2 (fun z => absurd z (by omega)) (fun _ => ip_total h10 h11 h20 h21 (pk_le (x + y) e (fun z => ?_) (fun z => ?_)))
  · rw [Nat.min_eq_right z] at H
    unfold wX_shareOut_51
    exact ip_sr2 K' h40 h41 (Nat.le_refl _) (fun a4' a5' f0 f1 => nm_r (pk_sub z) (nm_r (nI_1 2) (H a4' a5' f0 f1)))
  · rw [Nat.min_eq_left (Nat.le_of_lt z)] at H
    unfold wX_shareOut_51
    exact ip_sr2 K' h40 h41 (Nat.le_of_lt z) (fun a4' a5' f0 f1 => nm_r (pk_sub (Nat.le_refl e)) (nm_r (nI_1 2) (H a4' a5' f0 f1)))
theorem ip_so4 {x2 : Int32} {n i : Nat} (hi : i < 2) (H : wX_shareOut_4 post x2 2 p o n (nI (i + 1)) a1 a2 a3 (upd a4 i (nI 0)) a5 a6) : wX_shareOut_4 post x2 2 p o (n + 1) (nI i) a1 a2 a3 a4 a5 a6 :=
  pk_le 2 i (fun z => absurd z (by omega)) (fun _ => ⟨pk_in i 8 (by omega), nm_r (e' := upd a4 i (nI 0)) (by rw [ip_cl i (by omega)]; rfl) (nm_r (nI_1 i) H)⟩)
theorem ip_shareOut {e x y rl : Nat} (K : ip_K x y rl a1 a2 a3) (he : e ≤ 1000)
    (H : ∀ a4' a5' : Nat → Int32, a4' 0 = nI (ip_G rl x y (min e (x + y))) → a4' 1 = nI (min e (x + y) - ip_G rl x y (min e (x + y))) → post (2, p, nI (e - min e (x + y)), a1, a2, a3, a4', a5', a6)) : wpX_shareOut post (2, p, o, a1, a2, a3, a4, a5, a6) (nI e) := by
  have K' := K
  obtain ⟨⟨hx, hy, hr⟩, ⟨h10, h11, h20, h21⟩, h30, h31, h32, h33⟩ := K
  refine ⟨3, ip_so4 (i := 0) (by omega) (ip_so4 (i := 1) (by omega) (pk_le 2 2 (fun _ => ⟨5, ?_⟩) (fun z => absurd z (by omega))))⟩
  refine ip_so0 (r := 0) (by omega) (by omega) he h20 h21 h30 ip_u0 ip_u1 (fun b4 b5 f0 f1 => ?_)
  refine ip_so0 (r := 1) (by omega) (by omega) he h20 h21 h31 f0 f1 (fun b4 b5 f0 f1 => ?_)
  refine ip_so2 K' he f0 f1 (fun b4 b5 f0 f1 => ?_)
  refine ip_so0 (r := 3) (by omega) (by omega) (by omega) h20 h21 h33 f0 f1 (fun b4 b5 f0 f1 => ?_)
  exact pk_le 4 4 (fun _ => H b4 b5 f0 f1) (fun z => absurd z (by omega))
end
section
variable {post : Int32 → St2 → Prop} {o : Int32} {a1 a2 a3 a4 a5 a6 : Nat → Int32} {e x y rl : Nat}
/-! share, shareUnder, left, paid -/
theorem ip_share0 (K : ip_K x y rl a1 a2 a3) (he : e ≤ 1000)
    (H : ∀ a4' a5' : Nat → Int32, post (nI (ip_G rl x y (min e (x + y)))) (2, nI e, nI (e - min e (x + y)), a1, a2, a3, a4', a5', a6)) : wpX_share post (2, nI e, o, a1, a2, a3, a4, a5, a6) 0 := by
  unfold wpX_share
  refine ip_cred (c := 0) (by omega) (br_f (by decide) (ip_shareOut K he (fun b4 b5 f0 f1 => ⟨pk_in 0 8 (by omega), ?_⟩)))
  have h := H b4 b5
  rw [← f0] at h
  exact h
theorem ip_share1 (K : ip_K x y rl a1 a2 a3) (he : e ≤ 1000)
    (H : ∀ a4' a5' : Nat → Int32, post (nI (min e (x + y) - ip_G rl x y (min e (x + y)))) (2, nI e, nI (e - min e (x + y)), a1, a2, a3, a4', a5', a6)) : wpX_share post (2, nI e, o, a1, a2, a3, a4, a5, a6) 1 := by
  unfold wpX_share
  refine ip_cred (c := 1) (by omega) (br_f (by decide) (ip_shareOut K he (fun b4 b5 f0 f1 => ⟨pk_in 1 8 (by omega), ?_⟩)))
  have h := H b4 b5
  rw [← f1] at h
  exact h
theorem ip_under {t : Nat} (ht : t ≤ 3) (K : ip_K x y rl a1 a2 a3) (he : e ≤ 1000)
    (H : ∀ a3' a4' a5' : Nat → Int32, ip_K x y rl a1 a2 a3' → post (nI (ip_G t x y (min e (x + y)))) (2, nI e, nI (e - min e (x + y)), a1, a2, a3', a4', a5', a6)) : wpX_shareUnder post (2, nI e, o, a1, a2, a3, a4, a5, a6) 0 (nI t) := by
  obtain ⟨⟨hx, hy, hr⟩, ⟨h10, h11, h20, h21⟩, h30, h31, h32, h33⟩ := K
  have K1 : ip_K x y t a1 a2 (upd a3 2 (nI t)) := ⟨⟨hx, hy, ht⟩, ⟨h10, h11, h20, h21⟩, h30, h31, rfl, h33⟩
  have K2 : ip_K x y rl a1 a2 (upd (upd a3 2 (nI t)) 2 (nI rl)) := ⟨⟨hx, hy, hr⟩, ⟨h10, h11, h20, h21⟩, h30, h31, rfl, h33⟩
  have c2 := ip_cl 2 (by omega)
  unfold wpX_shareUnder
  refine ip_cred (c := 0) (by omega) (br_f (by decide) (ip_isRule ht (br_f (by decide) ⟨pk_in 0 8 (by omega), nm_r (e' := nI 2) h20 ⟨pk_in 2 4 (by omega), nm_r (e' := nI rl) (by rw [c2]; exact h32) ⟨pk_in 2 4 (by omega), nm_r (e' := upd a3 2 (nI t)) (by rw [c2]) (ip_shareOut K1 he (fun b4 b5 f0 f1 => ⟨pk_in 2 4 (by omega), nm_r (e' := upd (upd a3 2 (nI t)) 2 (nI rl)) (by rw [c2]) ⟨pk_in 0 8 (by omega), ?_⟩⟩))⟩⟩⟩)))
  have h := H _ b4 b5 K2
  rw [← f0] at h
  exact h
theorem ip_left (K : ip_K x y rl a1 a2 a3) (he : e ≤ 1000)
    (H : ∀ a4' a5' : Nat → Int32, post (nI (e - min e (x + y))) (2, nI e, nI (e - min e (x + y)), a1, a2, a3, a4', a5', a6)) : wpX_left post (2, nI e, o, a1, a2, a3, a4, a5, a6) := by
  unfold wpX_left
  exact ip_shareOut K he (fun b4 b5 f0 f1 => H b4 b5)
theorem ip_pd21 {p : Int32} {n s w i : Nat} (hi : i < 2) (h2 : a2 i = 2) (h4 : a4 i = nI w) (H : wX_paid_21 post 2 2 p o a1 a2 a3 a4 a5 a6 n (nI (s + w)) (nI (i + 1))) : wX_paid_21 post 2 2 p o a1 a2 a3 a4 a5 a6 (n + 1) (nI s) (nI i) := by
  refine pk_le 2 i (fun z => absurd z (by omega)) (fun _ => ⟨pk_in i 8 (by omega), ?_⟩)
  rw [ip_cl i (by omega), h4]
  exact br_t h2 ⟨pk_in i 8 (by omega), nm_r (nI_add s w) (nm_r (nI_1 i) H)⟩
theorem ip_paid (K : ip_K x y rl a1 a2 a3) (he : e ≤ 1000)
    (H : ∀ a4' a5' : Nat → Int32, post (nI (min e (x + y))) (2, nI e, nI (e - min e (x + y)), a1, a2, a3, a4', a5', a6)) : wpX_paid post (2, nI e, o, a1, a2, a3, a4, a5, a6) 2 := by
  have K' := K
  obtain ⟨⟨hx, hy, hr⟩, ⟨h10, h11, h20, h21⟩, h30, h31, h32, h33⟩ := K
  have g := ip_G_b (rl := rl) (Nat.min_le_right e (x + y))
  unfold wpX_paid
  refine ip_isRank (r := 2) (by omega) (br_f (by decide) (ip_shareOut K' he (fun b4 b5 f0 f1 => ⟨3, ip_pd21 (s := 0) (i := 0) (by omega) h20 f0 (ip_pd21 (i := 1) (by omega) h21 f1 (pk_le 2 2 (fun _ => ?_) (fun z => absurd z (by omega))))⟩)))
  rw [show 0 + ip_G rl x y (min e (x + y)) + (min e (x + y) - ip_G rl x y (min e (x + y))) = min e (x + y) by omega]
  exact H b4 b5
end
end
section
theorem ip_G0 (x y u : Nat) : ip_G 0 x y u = ip_aw x y u := rfl
theorem ip_G1 (x y u : Nat) : ip_G 1 x y u = ip_lo x y u := rfl
section
variable {post : Int32 → St0 → Prop} {mc ms kc ks : Nat} {o : Int32} {a1 a2 a3 a4 a5 a6 : Nat → Int32} {e x y rl : Nat} {x2 x7 x13 : Int32}
theorem ip_309 (K : ip_K x y rl a1 a2 a3) (he : e ≤ 255) (H : post 1 ()) :
    wL_lawOf_309 post mc ms (nI e) (nI (min e (x + y))) (nI (ip_aw x y (min e (x + y)))) (nI (ip_lo x y (min e (x + y)))) (nI (ip_G rl x y (min e (x + y)))) kc ks 2 (nI e) o a1 a2 a3 a4 a5 a6 := by
  have g := ip_G_b (rl := rl) (Nat.min_le_right e (x + y))
  unfold wL_lawOf_309
  refine ip_under (t := 0) (by omega) K (by omega) (fun b3 b4 b5 K => br_t (congrArg nI (ip_G0 x y _)) ?_)
  refine ip_under (t := 1) (by omega) K (by omega) (fun b3 b4 b5 K => br_t (congrArg nI (ip_G1 x y _)) ?_)
  refine ip_share1 K (by omega) (fun b4 b5 => br_t (pk_sub g).symm ?_)
  refine ip_left K (by omega) (fun b4 b5 => br_t (pk_sub (Nat.min_le_left e (x + y))).symm ?_)
  exact ip_paid K (by omega) (fun b4 b5 => br_t rfl H)
theorem ip_290 (K : ip_K x y rl a1 a2 a3) (he : e ≤ 255) (h7 : x7 = 0 ∨ x2 = nI rl) (H : post 1 ()) :
    wL_lawOf_290 post mc ms x2 x7 (nI e) (nI (min e (x + y))) (nI (ip_aw x y (min e (x + y)))) (nI (ip_lo x y (min e (x + y)))) (nI (ip_G rl x y (min e (x + y)))) kc ks 2 (nI e) o a1 a2 a3 a4 a5 a6 := by
  have h := ip_309 (post := post) (mc := mc) (ms := ms) (kc := kc) (ks := ks) (o := o) (a4 := a4) (a5 := a5) (a6 := a6) K he H
  refine br_c (fun _ => h) (fun z => br_c (fun z1 => br_t ?_ h) (fun _ => h))
  rcases h7 with h7 | h7
  · exact absurd h7 z
  · have hr : rl ≤ 3 := K.1.2.2
    have e1 : rl = 1 := (nI_eq (a := rl) (b := 1) (by omega) (by omega)).mp (h7.symm.trans z1)
    rw [e1, ip_G1]
theorem ip_268 {z0 : Int32} (K : ip_K x y rl a1 a2 a3) (he : e ≤ 255) (h7 : x7 = 0 ∨ x2 = nI rl) (h13 : x13 = 0 ∨ rl = 0) (hz : z0 = nI (ip_lo x y (min e (x + y)))) (H : post 1 ()) :
    wL_lawOf_268 post mc ms x2 x7 (nI e) (nI (min e (x + y))) x13 (nI (ip_aw x y (min e (x + y)))) z0 kc ks 2 (nI e) o a1 a2 a3 a4 a5 a6 := by
  subst hz
  unfold wL_lawOf_268
  refine ip_share0 K (by omega) (fun b4 b5 => br_c (fun _ => ip_290 K he h7 H) (fun z => br_t ?_ (ip_290 K he h7 H)))
  rcases h13 with h13 | h13
  · exact absurd h13 z
  · rw [h13, ip_G0]
theorem ip_0lt {u g : Nat} (hu : u ≤ 1000) (hg : g ≤ 1000) (h : u ≤ g) : ¬ 0 < nI u - nI g := by
  rw [Int32.lt_iff_toInt_lt, pk_sub_toInt (by omega) (by omega), show (0 : Int32).toInt = 0 from by decide]
  omega
theorem ip_d2 {n : Nat} (h : n ≤ 1000) : nI n / 2 = nI (n / 2) := pk_div (a := n) (d := 2) (by omega) (by omega) (by omega)
theorem ip_218 {z0 : Int32} {gap : Nat} (K : ip_K x y rl a1 a2 a3) (he : e ≤ 255) (h7 : x7 = 0 ∨ x2 = nI rl) (h13 : x13 = 0 ∨ rl = 0) (hg : gap = (x - y) + (y - x)) (hz : z0 = nI (ip_aw x y (min e (x + y)))) (H : post 1 ()) :
    wL_lawOf_218 post mc ms x2 (nI x) (nI y) x7 (nI e) (nI (min e (x + y))) (nI gap) x13 z0 kc ks 2 (nI e) o a1 a2 a3 a4 a5 a6 := by
  subst hz
  have hx : x ≤ 127 := K.1.1
  have hy : y ≤ 127 := K.1.2.1
  have hu : min e (x + y) ≤ 255 := by omega
  have key : ∀ z0 : Int32, z0 = nI (ip_lo x y (min e (x + y))) → wL_lawOf_268 post mc ms x2 x7 (nI e) (nI (min e (x + y))) x13 (nI (ip_aw x y (min e (x + y)))) z0 kc ks 2 (nI e) o a1 a2 a3 a4 a5 a6 := fun z0 hz => ip_268 K he h7 h13 hz H
  have c := ip_lo_c x y (min e (x + y))
  generalize ip_aw x y (min e (x + y)) = A at *
  generalize ip_lo x y (min e (x + y)) = B at *
  generalize min e (x + y) = u at *
  unfold wL_lawOf_218
  by_cases h : gap < u
  · refine nm_r (pk_sub (Nat.le_of_lt h)) (pk_lt 0 (u - gap) (fun z => ⟨by decide, pk_le x y (fun z2 => ?_) (fun z2 => ?_)⟩) (fun z => absurd z (by omega)))
    · refine key _ ?_
      rw [nI_1, ip_d2 (by omega), ip_a0]
      congr 1
      omega
    · refine key _ ?_
      rw [nI_1, ip_d2 (by omega), nI_add]
      congr 1
      omega
  · refine nm_e (br_f (ip_0lt (by omega) (by omega) (by omega)) (pk_le x y (fun z2 => ?_) (fun z2 => ?_)))
    · refine key _ ?_
      rw [show B = 0 by omega]
      rfl
    · refine key _ ?_
      rw [show B = u by omega]
theorem ip_181 {low gap : Nat} (K : ip_K x y rl a1 a2 a3) (he : e ≤ 255) (h7 : x7 = 0 ∨ x2 = nI rl) (h13 : x13 = 0 ∨ rl = 0) (hl : low = min x y) (hg : gap = (x - y) + (y - x)) (H : post 1 ()) :
    wL_lawOf_181 post mc ms x2 (nI x) (nI y) x7 (nI e) (nI (min e (x + y))) (nI low) (nI gap) x13 kc ks 2 (nI e) o a1 a2 a3 a4 a5 a6 := by
  have hx : x ≤ 127 := K.1.1
  have hy : y ≤ 127 := K.1.2.1
  have hu : min e (x + y) ≤ 255 := by omega
  have key : ∀ z0 : Int32, z0 = nI (ip_aw x y (min e (x + y))) → wL_lawOf_218 post mc ms x2 (nI x) (nI y) x7 (nI e) (nI (min e (x + y))) (nI gap) x13 z0 kc ks 2 (nI e) o a1 a2 a3 a4 a5 a6 := fun z0 hz => ip_218 K he h7 h13 hg hz H
  have c := ip_aw_c x y (min e (x + y))
  generalize ip_aw x y (min e (x + y)) = A at *
  generalize min e (x + y) = u at *
  unfold wL_lawOf_181
  refine pk_lt (2 * low) u (fun z => pk_le y x (fun z2 => key _ ?_) (fun z2 => key _ ?_)) (fun z => ⟨by decide, key _ ?_⟩) (pk_mul 2 low)
  · rw [pk_sub (by omega)]
    congr 1
    omega
  · congr 1
    omega
  · rw [nI_1, ip_d2 (by omega)]
    congr 1
    omega
theorem ip_165 {low gap : Nat} (K : ip_K x y rl a1 a2 a3) (he : e ≤ 255) (h7 : (x7 = 0 ∧ rl = 0) ∨ (x7 = 1 ∧ x2 = nI rl)) (hl : low = min x y) (hg : gap = (x - y) + (y - x)) (H : post 1 ()) :
    wL_lawOf_165 post mc ms x2 (nI x) (nI y) x7 (nI e) (nI (min e (x + y))) (nI low) (nI gap) kc ks 2 (nI e) o a1 a2 a3 a4 a5 a6 := by
  have h7' : x7 = 0 ∨ x2 = nI rl := h7.imp And.left And.right
  have hr : rl ≤ 3 := K.1.2.2
  unfold wL_lawOf_165 wL_lawOf_176
  refine br_c (fun z => ip_181 K he h7' (Or.inr ?_) hl hg H) (fun z => br_c (fun z1 => ip_181 K he h7' (Or.inr ?_) hl hg H) (fun z1 => ip_181 K he h7' (Or.inl rfl) hl hg H))
  · rcases h7 with h | h
    · exact h.2
    · exact absurd (h.1.symm.trans z) (by decide)
  · rcases h7 with h | h
    · exact h.2
    · exact (nI_eq (a := rl) (b := 0) (by omega) (by omega)).mp (h.2.symm.trans z1)
theorem ip_127 (K : ip_K x y rl a1 a2 a3) (he : e ≤ 255) (h7 : (x7 = 0 ∧ rl = 0) ∨ (x7 = 1 ∧ x2 = nI rl)) (H : post 1 ()) :
    wL_lawOf_127 post mc ms x2 (nI x) (nI y) x7 (nI e) (nI (min e (x + y))) kc ks 2 (nI e) o a1 a2 a3 a4 a5 a6 := by
  have hx : x ≤ 127 := K.1.1
  have hy : y ≤ 127 := K.1.2.1
  have key : ∀ low : Nat, low = min x y → wL_lawOf_143 post mc ms x2 (nI x) (nI y) x7 (nI e) (nI (min e (x + y))) (nI low) kc ks 2 (nI e) o a1 a2 a3 a4 a5 a6 := by
    intro low hl
    unfold wL_lawOf_143
    refine pk_le y x (fun z => ?_) (fun z => ?_)
    · rw [pk_sub z]
      exact ip_165 K he h7 hl (by omega) H
    · rw [pk_sub (Nat.le_of_lt z)]
      exact ip_165 K he h7 hl (by omega) H
  unfold wL_lawOf_127
  exact pk_le y x (fun z => key y (by omega)) (fun z => key x (by omega))
/-- the class's rows, once the rule is set -/
theorem ip_80 {x3 z : Int32} (K : ip_K x y rl a1 a2 a3) (h7 : (x7 = 0 ∧ rl = 0) ∨ (x7 = 1 ∧ x2 = nI rl)) (H : post 1 ()) :
    wL_lawOf_80 post mc ms x2 x3 (nI x) (nI y) x7 z z kc ks 2 (nI 0) o a1 a2 a3 a4 a5 a6 := by
  have hx : x ≤ 127 := K.1.1
  have hy : y ≤ 127 := K.1.2.1
  obtain ⟨e, he, ee⟩ := pk_andE x3 (m := 255) 8 (by decide)
  have he' : e ≤ 255 := by omega
  unfold wL_lawOf_80
  refine br_t rfl (nm_r ee ?_)
  have k : ∀ u, u = min e (x + y) → wL_lawOf_127 post mc ms x2 (nI x) (nI y) x7 (nI e) (nI u) kc ks 2 (nI e) o a1 a2 a3 a4 a5 a6 := by
    intro u hu
    rw [hu]
    exact ip_127 K he' h7 H
  have e0 : nI 0 + nI e = nI e := by rw [nI_add, Nat.zero_add]
  unfold wpX_estate
  dsimp only
  rw [e0]
  refine br_f (fun t => ?_) (pk_lt 1500 e (fun z => absurd z (by omega)) (fun _ => pk_lt e 0 (fun z => absurd z (by omega)) (fun _ => pk_le e 1500 (fun _ => nm_e ?_) (fun z => absurd z (by omega)))))
  · rw [Int32.lt_iff_toInt_lt, nI_toInt (by omega), show (-1500 : Int32).toInt = -1500 from by decide] at t
    omega
  · exact br_t rfl (nm_r (nI_add x y) (pk_le (x + y) e (fun z => k _ (by omega)) (fun z => k _ (by omega))))
end
section
variable {post : Int32 → St2 → Prop} {p o : Int32} {a1 a2 a3 a4 a5 a6 : Nat → Int32}
/-! add, rule -/
theorem ip_add {c v : Nat} (hc : c < 8) (hv : v ≤ 150) (H : post (nI c) (nI (c + 1), p, o, upd a1 c (nI v), upd a2 c 2, a3, a4, a5, a6)) : wpX_add post (nI c, p, o, a1, a2, a3, a4, a5, a6) (nI v) 2 := by
  refine pk_lt v 0 (fun z => absurd z (by omega)) (fun _ => pk_le v 150 (fun _ => ?_) (fun z => absurd z (by omega)))
  refine ip_isRank (r := 2) (by omega) (br_f (by decide) (pk_eq c 8 (fun z => absurd z (by omega)) (fun _ => ⟨pk_in c 8 hc, nm_r (e' := upd a1 c (nI v)) (by rw [ip_cl c (by omega)]) ⟨pk_in c 8 hc, nm_r (e' := upd a2 c 2) (by rw [ip_cl c (by omega)]) (nm_r (nI_1 c) ?_)⟩⟩)))
  rw [nI_pred]
  exact H
theorem ip_rule {t : Nat} (ht : t ≤ 3) (H : post (a3 2) (2, p, o, a1, a2, upd a3 2 (nI t), a4, a5, a6)) : wpX_rule post (2, p, o, a1, a2, a3, a4, a5, a6) 2 (nI t) := by
  unfold wpX_rule
  exact ip_isRank (r := 2) (by omega) (br_f (by decide) (ip_isRule ht (br_f (by decide) ⟨pk_in 2 4 (by omega), nm_e ⟨pk_in 2 4 (by omega), nm_e H⟩⟩)))
theorem ip_ruleN {t : Int32} (ht : t < 0 ∨ 3 < t) (H : post (-2) (2, p, o, a1, a2, a3, a4, a5, a6)) : wpX_rule post (2, p, o, a1, a2, a3, a4, a5, a6) 2 t := by
  unfold wpX_rule
  refine ip_isRank (r := 2) (by omega) (br_f (by decide) ?_)
  unfold wpX_isRule
  refine br_c (fun _ => br_t rfl H) (fun z => br_c (fun _ => br_t rfl H) (fun z2 => ?_))
  rcases ht with h | h
  · exact absurd h z
  · exact absurd h z2
end
/-! the law -/
theorem ip_lawOf (q0 q1 q2 q3 : Int32) : wpL_lawOf (fun r _ => r = 1) 40 640 () q0 q1 q2 q3 := by
  obtain ⟨x, hx, ex⟩ := pk_andE q0 (m := 127) 7 (by decide)
  obtain ⟨y, hy, ey⟩ := pk_andE q1 (m := 127) 7 (by decide)
  have hx' : x ≤ 127 := by omega
  have hy' : y ≤ 127 := by omega
  refine ⟨by decide, by decide, 6, 44, by decide, by decide, by decide, by decide, by decide, by decide, by decide, by decide, by decide, by decide, by decide, by decide, by decide, by decide, ?_⟩
  refine nm_r ex (nm_r ey ?_)
  refine ip_add (c := 0) (by omega) (by omega) (br_t rfl ?_)
  refine ip_add (c := 1) (by omega) (by omega) (br_t rfl ?_)
  have bad : (q2 < 0 ∨ 3 < q2) → wL_lawOf_59 (fun r _ => r = 1) 40 640 q2 q3 (nI x) (nI y) (1 + 6) (9 + 44) 2 0 0 (upd (upd (fun _ => 0) 0 (nI x)) 1 (nI y)) (upd (upd (fun _ => 0) 0 2) 1 2) (fun _ => 0) (fun _ => 0) (fun _ => 0) (fun _ => 0) := by
    intro h
    unfold wL_lawOf_59 wL_lawOf_60
    refine ip_ruleN h (br_t rfl ?_)
    exact ip_80 (rl := 0) ⟨⟨hx', hy', by omega⟩, ⟨rfl, rfl, rfl, rfl⟩, rfl, rfl, rfl, rfl⟩ (Or.inl ⟨rfl, rfl⟩) rfl
  refine br_c (fun z => bad (Or.inl z)) (fun z => br_c (fun z2 => bad (Or.inr z2)) (fun z2 => ?_))
  obtain ⟨t, ht, rfl⟩ := nI_of z
  have ht' : t ≤ 3 := by
    rcases Nat.lt_or_ge 3 t with h | h
    · exact absurd (nI_lt h ht) z2
    · exact h
  unfold wL_lawOf_60
  refine ip_rule ht' (br_f (by decide) ?_)
  exact ip_80 (rl := t) ⟨⟨hx', hy', ht'⟩, ⟨rfl, rfl, rfl, rfl⟩, rfl, rfl, rfl, rfl⟩ (Or.inr ⟨rfl, rfl⟩) rfl
theorem ip_cell {post : Int32 → Prop} {L : Nat} {xs : Nat → Int32} (i : Nat) (hi : i < 4) (hL : L ≤ 4) (H : ∀ v, post v) : wpL_cellAt post L xs () (nI i) :=
  pk_le L i (fun _ => H 0) (fun z => ⟨pk_in i L z, H _⟩)
theorem i_vc (xs : Nat → Int32) (L : Nat) (hL : L ≤ 4) : wpL_law (fun r => r = 1) L xs := by
  unfold wpL_law
  refine ip_cell 0 (by omega) hL (fun r1 => ip_cell 1 (by omega) hL (fun r2 => ip_cell 2 (by omega) hL (fun r3 => ip_cell 3 (by omega) hL (fun r4 => ?_))))
  exact ⟨40, 640, by decide, by decide, ip_lawOf r1 r2 r3 r4⟩
end
