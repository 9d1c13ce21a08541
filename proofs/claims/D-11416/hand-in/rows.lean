section
/-! ===== numbers: the printed sums as naturals ===== -/
theorem fw_row (l m : Nat) : (7 : Int32) * nI l + nI m = nI (7 * l + m) := by
  rw [show (7 : Int32) = nI 7 from rfl, pk_mul, nI_add]
theorem fw_19 (r : Nat) : (19 : Int32) * nI r = nI (19 * r) := by
  rw [show (19 : Int32) = nI 19 from rfl, pk_mul]
theorem fw_time (x y : Nat) : (16 : Int32) * nI x + nI y = nI (16 * x + y) := by
  rw [show (16 : Int32) = nI 16 from rfl, pk_mul, nI_add]
theorem fw_mk (m a b : Nat) : ((256 : Int32) * nI m + 16 * nI a) + nI b = nI (256 * m + 16 * a + b) := by
  rw [show (256 : Int32) = nI 256 from rfl, show (16 : Int32) = nI 16 from rfl, pk_mul, pk_mul, nI_add, nI_add]
theorem fw_64 (p q : Nat) : (64 : Int32) * nI p + nI q = nI (64 * p + q) := by
  rw [show (64 : Int32) = nI 64 from rfl, pk_mul, nI_add]
theorem fw_hi {x y : Nat} (hx : x < 16) (hy : y < 16) : nI (16 * x + y) >>> ((4 : Int32) &&& 31) = nI x := by
  rw [pk_shrN (by omega) _ 4 (by decide), show (16 * x + y) / 2 ^ 4 = x by omega]
theorem fw_lo {x y : Nat} (hx : x < 16) (hy : y < 16) : nI (16 * x + y) &&& 15 = nI y := by
  rw [pk_andN (by omega) 4 (by decide), show (16 * x + y) % 2 ^ 4 = y by omega]
theorem fw_hi6 {v : Nat} (hv : v < 256) : nI v >>> ((6 : Int32) &&& 31) = nI (v / 64) := by
  rw [pk_shrN (by omega) _ 6 (by decide)]
theorem fw_lo6 {v : Nat} (hv : v < 256) : nI v &&& 63 = nI (v % 64) := by
  rw [pk_andN (by omega) 6 (by decide)]
theorem fw_d7 {r : Nat} (hr : r < 49) : nI r / 7 = nI (r / 7) := pk_div (d := 7) (by omega) (by omega) (by omega)
theorem fw_m7 {r : Nat} (hr : r < 2000) : nI r - nI r / 7 * 7 = nI (r % 7) := pk_rem (d := 7) (by omega) (by omega) (by omega)
theorem fw_m6 {r : Nat} (hr : r < 2000) : nI r - nI r / 6 * 6 = nI (r % 6) := pk_rem (d := 6) (by omega) (by omega) (by omega)
theorem fw_m8 {r : Nat} (hr : r < 49) : nI r - nI r / 8 * 8 = nI (r % 8) := pk_rem (d := 8) (by omega) (by omega) (by omega)
theorem fw_ler (x : Int32) : x ≤ x := Int32.le_refl x
/-! ===== the small methods ===== -/
theorem fw_isPlace {post : Int32 → Prop} {u : St0} {l : Nat} (hl : l < 7) (h : post 1) : wpX_isPlace post u (nI l) :=
  pk_lt l 0 (fun z => absurd z (by omega)) (fun _ => pk_lt 6 l (fun z => absurd z (by omega)) (fun _ => h))
theorem fw_isTime {post : Int32 → Prop} {u : St0} {x y : Nat} (hx : x < 16) (hy : y < 16) (h : post 1) : wpX_isTime post u (nI x) (nI y) :=
  pk_lt x 0 (fun z => absurd z (by omega)) (fun _ => pk_lt 15 x (fun z => absurd z (by omega)) (fun _ =>
    pk_lt y 0 (fun z => absurd z (by omega)) (fun _ => pk_lt 15 y (fun z => absurd z (by omega)) (fun _ => h))))
theorem fw_cell {post : Int32 → Prop} {L k : Nat} {xs : Nat → Int32} {u : St0} (hL : L ≤ 5) (hk : k < 5) (h : ∀ r, post r) : wpL_cellAt post L xs u (nI k) :=
  pk_le L k (fun _ => h 0) (fun z => ⟨pk_in k L z, h _⟩)
/-! ===== the picture of the least sums: each row holds at most one ===== -/
def fw_K (c v : Nat → Nat) (a7 a8 : Nat → Int32) : Prop := ∀ r, r < 49 → c r ≤ 1 ∧ v r < 256 ∧ a7 r = nI (c r) ∧ a8 (19 * r) = nI (v r)
def fw_c0 (r : Nat) : Nat := if r % 8 = 0 then 1 else 0
def fw_c1 (l m r : Nat) : Nat := if r % 8 = 0 ∨ r = 7 * l + m then 1 else 0
def fw_v1 (l m p q r : Nat) : Nat := if r = 7 * l + m then 64 * p + q else 0
theorem fw_diag {a b : Nat} (ha : a < 7) (hb : b < 7) : (7 * a + b) % 8 = 0 ↔ a = b := by omega
theorem fw_pair {a b l m : Nat} (hb : b < 7) (hm : m < 7) : 7 * a + b = 7 * l + m ↔ a = l ∧ b = m := by omega
theorem fw_K1 {l m p q : Nat} {a7 a8 : Nat → Int32} (hl : l < 7) (hm : m < 7) (hp : p < 4) (hq : q < 4) (k : fw_K fw_c0 (fun _ => 0) a7 a8) :
    fw_K (fw_c1 l m) (fw_v1 l m p q) (upd a7 (7 * l + m) (nI 1)) (upd a8 (19 * (7 * l + m)) (nI (64 * p + q))) := by
  intro r hr
  obtain ⟨k1, k2, k3, k4⟩ := k r hr
  by_cases e : r = 7 * l + m
  · have e1 : fw_c1 l m r = 1 := by unfold fw_c1; rw [if_pos (Or.inr e)]
    have e2 : fw_v1 l m p q r = 64 * p + q := by unfold fw_v1; rw [if_pos e]
    rw [e1, e2]
    refine ⟨by omega, by omega, ?_, ?_⟩
    · rw [e, pk_us]
    · rw [e, pk_us]
  · have e1 : fw_c1 l m r = fw_c0 r := by
      unfold fw_c1 fw_c0
      by_cases h8 : r % 8 = 0
      · rw [if_pos (Or.inl h8), if_pos h8]
      · rw [if_neg (fun z => z.elim h8 e), if_neg h8]
    have e2 : fw_v1 l m p q r = 0 := by unfold fw_v1; rw [if_neg e]
    rw [e1, e2]
    exact ⟨k1, by omega, by rw [pk_un e]; exact k3, by rw [pk_un (by omega)]; exact k4⟩
theorem fw_join0 {r d : Nat} (hr : r < 49) (hd : d < 7) (h : r / 7 ≠ d) : fw_c0 (7 * (r / 7) + d) = 0 := by
  unfold fw_c0
  rw [if_neg]
  exact fun z => h ((fw_diag (by omega) hd).mp z)
theorem fw_join1 {l m r d : Nat} (hlm : l ≠ m) (hl : l < 7) (hm : m < 7) (hr : r < 49) (hd : d < 7) (h : r / 7 ≠ d) (h' : r % 7 ≠ d) :
    fw_c1 l m (7 * (r / 7) + d) = 0 ∨ fw_c1 l m (7 * d + r % 7) = 0 := by
  by_cases e : r / 7 = l ∧ d = m
  · refine Or.inr ?_
    unfold fw_c1
    rw [if_neg]
    rintro (z | z)
    · exact h' ((fw_diag hd (by omega)).mp z).symm
    · have := (fw_pair (by omega) hm).mp z
      omega
  · refine Or.inl ?_
    unfold fw_c1
    rw [if_neg]
    rintro (z | z)
    · exact h ((fw_diag (by omega) hd).mp z)
    · exact e ((fw_pair hd hm).mp z)
/-! ===== the marks: what one count adds ===== -/
def fw_C (c v : Nat → Nat) (l x y : Nat) (w : Int32) (i : Nat) (a s : Nat → Int32) : Prop := ∀ m α β, m < 7 → α < 16 → β < 16 →
  s (256 * m + 16 * α + β) = a (256 * m + 16 * α + β) + (if m < i ∧ c (7 * l + m) = 1 ∧ α = x + v (7 * l + m) / 64 ∧ β = y + v (7 * l + m) % 64 then w else 0)
def fw_st (c v x y : Nat) (w : Int32) (m : Nat) (a : Nat → Int32) : Nat → Int32 :=
  if c = 1 ∧ x + v / 64 ≤ 15 ∧ y + v % 64 ≤ 15 then upd a (256 * m + 16 * (x + v / 64) + (y + v % 64)) (a (256 * m + 16 * (x + v / 64) + (y + v % 64)) + w) else a
theorem fw_st_t {c v x y m : Nat} {w : Int32} {a : Nat → Int32} (h : c = 1 ∧ x + v / 64 ≤ 15 ∧ y + v % 64 ≤ 15) : fw_st c v x y w m a = upd a (256 * m + 16 * (x + v / 64) + (y + v % 64)) (a (256 * m + 16 * (x + v / 64) + (y + v % 64)) + w) := by
  unfold fw_st; rw [if_pos h]
theorem fw_st_f {c v x y m : Nat} {w : Int32} {a : Nat → Int32} (h : ¬ (c = 1 ∧ x + v / 64 ≤ 15 ∧ y + v % 64 ≤ 15)) : fw_st c v x y w m a = a := by
  unfold fw_st; rw [if_neg h]
theorem fw_C0 {c v : Nat → Nat} {l x y : Nat} {w : Int32} {a : Nat → Int32} : fw_C c v l x y w 0 a a := by
  intro m α β _ _ _
  rw [if_neg (fun z => absurd z.1 (by omega)), Int32.add_zero]
theorem fw_Cst {c v : Nat → Nat} {l x y i : Nat} {w : Int32} {a s : Nat → Int32} (hi : i < 7) (h : fw_C c v l x y w i a s) :
    fw_C c v l x y w (i + 1) a (fw_st (c (7 * l + i)) (v (7 * l + i)) x y w i s) := by
  intro m α β hm hα hβ
  have h0 := h m α β hm hα hβ
  by_cases hc : c (7 * l + i) = 1 ∧ x + v (7 * l + i) / 64 ≤ 15 ∧ y + v (7 * l + i) % 64 ≤ 15
  · rw [fw_st_t hc]
    by_cases e : m = i ∧ α = x + v (7 * l + i) / 64 ∧ β = y + v (7 * l + i) % 64
    · obtain ⟨e1, e2, e3⟩ := e
      subst e1
      rw [← e2, ← e3, pk_us, h0, if_neg (fun z => absurd z.1 (by omega)), if_pos ⟨by omega, hc.1, rfl, rfl⟩, Int32.add_zero]
    · rw [pk_un (fun z => e (by omega)), h0]
      congr 1
      by_cases em : m = i
      · subst em
        rw [if_neg (fun z => absurd z.1 (by omega)), if_neg (fun z => e ⟨rfl, z.2.2⟩)]
      · have q : (m < i) ↔ (m < i + 1) := by omega
        simp only [q]
  · rw [fw_st_f hc, h0]
    congr 1
    by_cases em : m = i
    · subst em
      rw [if_neg (fun z => absurd z.1 (by omega)), if_neg (fun z => hc ⟨z.2.1, by omega, by omega⟩)]
    · have q : (m < i) ↔ (m < i + 1) := by omega
      simp only [q]
/-- the marks of one place: one at (A, B), which may lie out of range, and no other -/
def fw_one (a : Nat → Int32) (P A B : Nat) : Prop := ∀ α β, α < 16 → β < 16 → (a (256 * P + 16 * α + β) ≤ 0 ↔ ¬ (α = A ∧ β = B))
end
section
section
variable {post : St2 → Prop} {L T G : Int32} {a1 a2 a3 a4 a5 a6 a7 a8 a9 a10 : Nat → Int32}
/-! ===== count ===== -/
theorem fw_c26x {J3 : Int32 → (Nat → Int32) → (Nat → Int32) → (Nat → Int32) → (Nat → Int32) → (Nat → Int32) → (Nat → Int32) → (Nat → Int32) → (Nat → Int32) → (Nat → Int32) → (Nat → Int32) → Prop} {x1 x2 x3 : Int32} {n m r c : Nat} (hr : r < 49) (e7 : a7 r = nI c)
    (h : J3 (nI (m + 1)) a1 a2 a3 a4 a5 a6 a7 a8 a9 a10) : wX_count_26 post J3 x1 x2 x3 (nI m) (nI r) L T G (n + 1) (nI (19 * r + c)) a1 a2 a3 a4 a5 a6 a7 a8 a9 a10 := by
  refine ⟨pk_in r 49 hr, ?_⟩
  rw [nI_clamp (show r < 2 ^ 31 by omega), e7, fw_19, nI_add]
  exact br_t (fw_ler _) (nm_r (nI_1 m) h)
theorem fw_c26 {J3 : Int32 → (Nat → Int32) → (Nat → Int32) → (Nat → Int32) → (Nat → Int32) → (Nat → Int32) → (Nat → Int32) → (Nat → Int32) → (Nat → Int32) → (Nat → Int32) → (Nat → Int32) → Prop} {x1 w : Int32} {m r c v x y : Nat} (hr : r < 49) (hc : c ≤ 1) (hv : v < 256) (e7 : a7 r = nI c) (e8 : a8 (19 * r) = nI v) (hm : m < 7) (hx : x < 16) (hy : y < 16)
    (h : J3 (nI (m + 1)) a1 a2 a3 a4 a5 a6 a7 a8 a9 (fw_st c v x y w m a10)) : ∃ fu, wX_count_26 post J3 x1 (nI (16 * x + y)) w (nI m) (nI r) L T G fu (nI (19 * r)) a1 a2 a3 a4 a5 a6 a7 a8 a9 a10 := by
  rcases Nat.lt_or_ge c 1 with z | z
  · have e : c = 0 := by omega
    subst e
    rw [fw_st_f (fun z => absurd z.1 (by omega))] at h
    exact ⟨1, fw_c26x hr e7 h⟩
  · have e : c = 1 := by omega
    subst e
    refine ⟨2, pk_in r 49 hr, ?_⟩
    rw [nI_clamp (show r < 2 ^ 31 by omega), nI_clamp (show 19 * r < 2 ^ 31 by omega), e7, e8, fw_19, nI_add, fw_hi hx hy, fw_lo hx hy, fw_hi6 hv, fw_lo6 hv]
    refine pk_le (19 * r + 1) (19 * r) (fun z => absurd z (by omega)) (fun _ => ⟨pk_in (19 * r) 931 (by omega), nm_r (nI_add _ _) ⟨pk_in (19 * r) 931 (by omega), nm_r (nI_add _ _) ?_⟩⟩)
    refine pk_lt 15 (x + v / 64) (fun z => nm_r (nI_1 _) ?_) (fun z => pk_lt 15 (y + v % 64) (fun z2 => nm_r (nI_1 _) ?_) (fun z2 => ?_))
    · rw [fw_st_f (fun z => absurd z.2.1 (by omega))] at h
      exact fw_c26x hr e7 h
    · rw [fw_st_f (fun z => absurd z.2.2 (by omega))] at h
      exact fw_c26x hr e7 h
    · rw [fw_st_t ⟨rfl, z, z2⟩] at h
      rw [fw_mk, nI_clamp (show 256 * m + 16 * (x + v / 64) + (y + v % 64) < 2 ^ 31 by omega)]
      exact ⟨vp_in_nI (by omega) (by omega), vp_in_nI (by omega) (by omega), nm_e (nm_r (nI_1 _) (fw_c26x hr e7 h))⟩
theorem fw_count {c v : Nat → Nat} {l x y : Nat} {w : Int32} (K : fw_K c v a7 a8) (hl : l < 7) (hx : x < 16) (hy : y < 16)
    (H : ∀ s, fw_C c v l x y w 7 a10 s → post (L, T, G, a1, a2, a3, a4, a5, a6, a7, a8, a9, s)) : wpX_count post (L, T, G, a1, a2, a3, a4, a5, a6, a7, a8, a9, a10) (nI l) (nI (16 * x + y)) w :=
  pk_loop (fun n i s => wX_count_3 post (nI l) (nI (16 * x + y)) w L T G n (nI i) a1 a2 a3 a4 a5 a6 a7 a8 a9 s) (fun i s => fw_C c v l x y w i a10 s) 7 0 a10 (by omega) fw_C0
    (fun n s h => pk_le 7 7 (fun _ => H s h) (fun z => absurd z (by omega)))
    (fun n i s hi h hw => pk_le 7 i (fun z => absurd z (by omega)) (fun _ => nm_r (fw_row l i) (nm_r (fw_19 _) (by
      obtain ⟨k1, k2, k3, k4⟩ := K (7 * l + i) (by omega)
      exact fw_c26 (by omega) k1 k2 k3 k4 hi hx hy (hw _ (fw_Cst hi h))))))
/-! ===== addSum over an empty row ===== -/
theorem fw_addSum {r v : Nat} (hr : r < 49) (e7 : a7 r = nI 0)
    (H : post (L, T, nI 1, a1, a2, a3, a4, a5, a6, upd a7 r (nI 1), upd a8 (19 * r) (nI v), upd a9 0 (nI v), a10)) : wpX_addSum post (L, T, G, a1, a2, a3, a4, a5, a6, a7, a8, a9, a10) (nI r) (nI v) := by
  refine nm_r (fw_19 r) ⟨1, pk_in r 49 hr, ?_⟩
  rw [nI_clamp (show r < 2 ^ 31 by omega), e7, nI_add]
  refine br_t (fw_ler _) (br_t rfl ⟨pk_in 0 40 (by omega), nm_r (e' := upd a9 0 (nI v)) rfl (nm_r (e' := nI 1) rfl ⟨2, ?_⟩)⟩)
  refine pk_le 1 0 (fun z => absurd z (by omega)) (fun _ => ⟨pk_in 0 40 (by omega), pk_in (19 * r) 931 (by omega) (Int32.add_zero _), nm_r (e' := upd a8 (19 * r) (nI v)) ?_ (nm_r (e' := nI 1) rfl ?_)⟩)
  · rw [Int32.add_zero, nI_clamp (show 19 * r < 2 ^ 31 by omega)]
    rfl
  · refine pk_le 1 1 (fun _ => ⟨pk_in r 49 hr, nm_r (e' := upd a7 r (nI 1)) ?_ H⟩) (fun z => absurd z (by omega))
    rw [nI_clamp (show r < 2 ^ 31 by omega)]
/-! ===== joinOver where one of the two rows is empty ===== -/
theorem fw_joinOver {c v : Nat → Nat} {r d : Nat} (K : fw_K c v a7 a8) (hr : r < 49) (hd : d < 7)
    (hj : r / 7 ≠ d → r % 7 ≠ d → c (7 * (r / 7) + d) = 0 ∨ c (7 * d + r % 7) = 0) (H : post (L, T, G, a1, a2, a3, a4, a5, a6, a7, a8, a9, a10)) : wpX_joinOver post (L, T, G, a1, a2, a3, a4, a5, a6, a7, a8, a9, a10) (nI r) (nI d) := by
  have b1 : 7 * (r / 7) + d < 49 := by omega
  have b2 : 7 * d + r % 7 < 49 := by omega
  unfold wpX_joinOver
  dsimp only
  rw [fw_d7 hr, fw_m8 hr]
  have e7 : nI r - nI (r / 7) * 7 = nI (r % 7) := by rw [← fw_d7 hr]; exact fw_m7 (by omega)
  rw [e7, fw_row, fw_row]
  refine ⟨by decide, nm_e ⟨by decide, nm_e ⟨by decide, pk_eq (r / 7) d (fun _ => H) (fun z1 => ⟨by decide, pk_eq (r % 7) d (fun _ => H) (fun z2 => ⟨by decide, pk_eq (r % 8) 0 (fun _ => H) (fun _ => ?_)⟩)⟩)⟩⟩⟩
  obtain ⟨k1, k2, k3, k4⟩ := K _ b1
  obtain ⟨q1, q2, q3, q4⟩ := K _ b2
  rcases Nat.lt_or_ge (c (7 * (r / 7) + d)) 1 with z | z
  · have e : c (7 * (r / 7) + d) = 0 := by omega
    refine ⟨1, vp_in_nI b1 (by omega), ?_⟩
    rw [nI_clamp (show 7 * (r / 7) + d < 2 ^ 31 by omega), k3, e]
    exact br_t (fw_ler _) H
  · have e : c (7 * (r / 7) + d) = 1 := by omega
    have e2 : c (7 * d + r % 7) = 0 := (hj z1 z2).elim (fun t => absurd t (by omega)) id
    refine ⟨2, vp_in_nI b1 (by omega), ?_⟩
    rw [nI_clamp (show 7 * (r / 7) + d < 2 ^ 31 by omega), k3, e]
    refine pk_le 1 0 (fun t => absurd t (by omega)) (fun _ => ⟨1, vp_in_nI b2 (by omega), ?_⟩)
    rw [nI_clamp (show 7 * d + r % 7 < 2 ^ 31 by omega), q3, e2]
    refine br_t (fw_ler _) (nm_r (e' := nI 1) rfl ⟨vp_in_nI b1 (by omega), ?_⟩)
    rw [nI_clamp (show 7 * (r / 7) + d < 2 ^ 31 by omega), k3, e]
    exact br_t (fw_ler _) H
end
end
section
section
variable {post : St2 → Prop} {L T G : Int32} {a1 a2 a3 a4 a5 a6 a7 a8 a9 a10 : Nat → Int32}
/-! ===== rebuild, from its end to its head ===== -/
theorem fw_r167_0 (H : post (L, nI 0, G, a1, a2, a3, a4, a5, a6, a7, a8, a9, a10)) : ∃ fu, wX_rebuild_167 post fu 0 L (nI 0) G a1 a2 a3 a4 a5 a6 a7 a8 a9 a10 :=
  ⟨1, pk_le 0 0 (fun _ => H) (fun z => absurd z (by omega))⟩
theorem fw_r167_1 {c v : Nat → Nat} {l x y : Nat} (K : fw_K c v a7 a8) (hl : l < 7) (hx : x < 16) (hy : y < 16) (e5 : a5 0 = nI l) (e6 : a6 0 = nI (16 * x + y))
    (H : ∀ s, fw_C c v l x y 1 7 a10 s → post (L, nI 1, G, a1, a2, a3, a4, a5, a6, a7, a8, a9, s)) : ∃ fu, wX_rebuild_167 post fu 0 L (nI 1) G a1 a2 a3 a4 a5 a6 a7 a8 a9 a10 := by
  refine ⟨2, pk_le 1 0 (fun z => absurd z (by omega)) (fun _ => ⟨pk_in 0 20 (by omega), pk_in 0 20 (by omega), ?_⟩)⟩
  rw [show (0 : Int32).toNatClampNeg = 0 from rfl, e5, e6]
  exact fw_count K hl hx hy (fun s hs => nm_r (e' := nI 1) rfl (pk_le 1 1 (fun _ => H s hs) (fun z => absurd z (by omega))))
theorem fw_r145 (H : ∀ s, (∀ k, k < 1792 → s k = 0) → ∃ fu, wX_rebuild_167 post fu 0 L T G a1 a2 a3 a4 a5 a6 a7 a8 a9 s) : ∃ fu, wX_rebuild_145 post L T G fu 0 a1 a2 a3 a4 a5 a6 a7 a8 a9 a10 :=
  pk_loop (fun n i s => wX_rebuild_145 post L T G n (nI i) a1 a2 a3 a4 a5 a6 a7 a8 a9 s) (fun i s => ∀ k, k < i → s k = 0) 1792 0 a10 (by omega) (fun k hk => absurd hk (by omega))
    (fun n s h => pk_le 1792 1792 (fun _ => H s h) (fun z => absurd z (by omega)))
    (fun n i s hi h hw => pk_le 1792 i (fun z => absurd z (by omega)) (fun _ => ⟨pk_in i 1792 hi, nm_r (e' := upd s i 0) (by rw [nI_clamp (by omega)]) (nm_r (nI_1 i) (hw _ (fun k hk => by
      by_cases e : k = i
      · rw [e, pk_us]
      · rw [pk_un e]
        exact h k (by omega))))⟩))
theorem fw_r119 {J111 : Int32 → Int32 → Int32 → Int32 → (Nat → Int32) → (Nat → Int32) → (Nat → Int32) → (Nat → Int32) → (Nat → Int32) → (Nat → Int32) → (Nat → Int32) → (Nat → Int32) → (Nat → Int32) → (Nat → Int32) → Prop} {c v : Nat → Nat} {d : Nat} (K : fw_K c v a7 a8) (hd : d < 7)
    (hj : ∀ r, r < 49 → r / 7 ≠ d → r % 7 ≠ d → c (7 * (r / 7) + d) = 0 ∨ c (7 * d + r % 7) = 0) (H : J111 (nI (d + 1)) L T G a1 a2 a3 a4 a5 a6 a7 a8 a9 a10) : ∃ fu, wX_rebuild_119 post J111 (nI d) fu 0 L T G a1 a2 a3 a4 a5 a6 a7 a8 a9 a10 :=
  pk_loop (σ := Unit) (fun n i _ => wX_rebuild_119 post J111 (nI d) n (nI i) L T G a1 a2 a3 a4 a5 a6 a7 a8 a9 a10) (fun _ _ => True) 49 0 () (by omega) trivial
    (fun n _ _ => pk_le 49 49 (fun _ => nm_r (nI_1 d) H) (fun z => absurd z (by omega)))
    (fun n i _ hi _ hw => pk_le 49 i (fun z => absurd z (by omega)) (fun _ => fw_joinOver K hi hd (hj i hi) (nm_r (nI_1 i) (hw () trivial))))
theorem fw_r111 {c v : Nat → Nat} (K : fw_K c v a7 a8)
    (hj : ∀ r d, r < 49 → d < 7 → r / 7 ≠ d → r % 7 ≠ d → c (7 * (r / 7) + d) = 0 ∨ c (7 * d + r % 7) = 0) (H : ∃ fu, wX_rebuild_145 post L T G fu 0 a1 a2 a3 a4 a5 a6 a7 a8 a9 a10) : ∃ fu, wX_rebuild_111 post fu 0 L T G a1 a2 a3 a4 a5 a6 a7 a8 a9 a10 :=
  pk_loop (σ := Unit) (fun n i _ => wX_rebuild_111 post n (nI i) L T G a1 a2 a3 a4 a5 a6 a7 a8 a9 a10) (fun _ _ => True) 7 0 () (by omega) trivial
    (fun n _ _ => pk_le 7 7 (fun _ => H) (fun z => absurd z (by omega)))
    (fun n i _ hi _ hw => pk_le 7 i (fun z => absurd z (by omega)) (fun _ => fw_r119 K hi (fun r hr => hj r i hr hi) (hw () trivial)))
theorem fw_r44_0 (H : ∃ fu, wX_rebuild_111 post fu 0 (nI 0) T G a1 a2 a3 a4 a5 a6 a7 a8 a9 a10) : ∃ fu, wX_rebuild_44 post fu 0 (nI 0) T G a1 a2 a3 a4 a5 a6 a7 a8 a9 a10 :=
  ⟨1, pk_le 0 0 (fun _ => H) (fun z => absurd z (by omega))⟩
theorem fw_r44_1 {l m p q : Nat} (hl : l < 7) (hm : m < 7) (hlm : l ≠ m) (e1 : a1 0 = nI l) (e2 : a2 0 = nI m) (e3 : a3 0 = nI p) (e4 : a4 0 = nI q) (e7 : a7 (7 * l + m) = nI 0)
    (H : ∃ fu, wX_rebuild_111 post fu 0 (nI 1) T (nI 1) a1 a2 a3 a4 a5 a6 (upd a7 (7 * l + m) (nI 1)) (upd a8 (19 * (7 * l + m)) (nI (64 * p + q))) (upd a9 0 (nI (64 * p + q))) a10) : ∃ fu, wX_rebuild_44 post fu 0 (nI 1) T G a1 a2 a3 a4 a5 a6 a7 a8 a9 a10 := by
  refine ⟨2, pk_le 1 0 (fun z => absurd z (by omega)) (fun _ => ⟨pk_in 0 12 (by omega), pk_in 0 12 (by omega), ?_⟩)⟩
  rw [show (0 : Int32).toNatClampNeg = 0 from rfl, e1, e2, e3, e4, fw_row, fw_64]
  refine pk_eq l m (fun z => absurd z hlm) (fun _ => ⟨pk_in 0 12 (by omega), pk_in 0 12 (by omega), pk_in 0 12 (by omega), pk_in 0 12 (by omega), ?_⟩)
  exact fw_addSum (by omega) e7 (nm_r (e' := nI 1) rfl (pk_le 1 1 (fun _ => H) (fun z => absurd z (by omega))))
/-- the head: every row empty but the diagonal's -/
theorem fw_r2 (H : ∀ s7 s8, fw_K fw_c0 (fun _ => 0) s7 s8 → ∃ fu, wX_rebuild_44 post fu 0 L T G a1 a2 a3 a4 a5 a6 s7 s8 a9 a10) : wpX_rebuild post (L, T, G, a1, a2, a3, a4, a5, a6, a7, a8, a9, a10) := by
  refine pk_loop (fun n i s => wX_rebuild_2 post L T G n (nI i) a1 a2 a3 a4 a5 a6 s.1 s.2 a9 a10) (fun i s => ∀ r, r < i → s.1 r = nI (fw_c0 r) ∧ s.2 (19 * r) = nI 0) 49 0 (a7, a8) (by omega) (fun k hk => absurd hk (by omega))
    (fun n s h => pk_le 49 49 (fun _ => H s.1 s.2 (fun r hr => ⟨?_, (show 0 < 256 by omega), (h r hr).1, (h r hr).2⟩)) (fun z => absurd z (by omega)))
    (fun n i s hi h hw => ?_)
  · unfold fw_c0
    split <;> omega
  · have key : ∀ b : Nat, b = fw_c0 i → wX_rebuild_25 post (wX_rebuild_2 post L T G n) (nI i) (nI b) (nI i) L T G a1 a2 a3 a4 a5 a6 s.1 s.2 a9 a10 := by
      intro b hb
      refine ⟨pk_in i 49 hi, nm_r (e' := upd s.1 i (nI b)) (by rw [nI_clamp (by omega)]) ⟨pk_in (19 * i) 931 (by omega) (fw_19 i), nm_r (e' := upd s.2 (19 * i) (nI 0)) (by rw [fw_19, nI_clamp (by omega)]; rfl) (nm_r (nI_1 i) (hw (upd s.1 i (nI b), upd s.2 (19 * i) (nI 0)) (fun r hr => ?_)))⟩⟩
      dsimp only
      by_cases e : r = i
      · rw [e, pk_us, pk_us, hb]
        exact ⟨rfl, rfl⟩
      · rw [pk_un e, pk_un (by omega)]
        exact h r (by omega)
    refine pk_le 49 i (fun z => absurd z (by omega)) (fun _ => ⟨by decide, ?_⟩)
    rw [fw_m8 hi]
    refine pk_eq (i % 8) 0 (fun z => key 1 ?_) (fun z => key 0 ?_)
    · unfold fw_c0; rw [if_pos z]
    · unfold fw_c0; rw [if_neg z]
/-! ===== the maker: no line, no token ===== -/
theorem fw_init {mc ms : Nat} (hc : 10 ≤ mc) (hs : 2900 ≤ ms)
    (H : ∀ s7 s8 s10, fw_K fw_c0 (fun _ => 0) s7 s8 → post (nI 0, nI 0, nI 0, (fun _ => 0), (fun _ => 0), (fun _ => 0), (fun _ => 0), (fun _ => 0), (fun _ => 0), s7, s8, (fun _ => 0), s10)) : wpX_init post mc ms (0, 0, 0) := by
  refine ⟨by omega, by omega, by omega, by omega, by omega, by omega, by omega, by omega, by omega, by omega, by omega, by omega, by omega, by omega, by omega, by omega, by omega, by omega, by omega, by omega, ?_⟩
  refine fw_r2 (fun s7 s8 K => fw_r44_0 (fw_r111 K (fun r d hr hd z _ => Or.inl (fw_join0 hr hd z)) (fw_r145 (fun s hs => fw_r167_0 ?_))))
  exact H s7 s8 s K
/-- rebuild with one line and one token -/
theorem fw_rebuild1 {l m p q x y : Nat} (hl : l < 7) (hm : m < 7) (hlm : l ≠ m) (hp : p < 4) (hq : q < 4) (hx : x < 16) (hy : y < 16)
    (e1 : a1 0 = nI l) (e2 : a2 0 = nI m) (e3 : a3 0 = nI p) (e4 : a4 0 = nI q) (e5 : a5 0 = nI l) (e6 : a6 0 = nI (16 * x + y))
    (H : ∀ g s7 s8 s9 z s, fw_K (fw_c1 l m) (fw_v1 l m p q) s7 s8 → (∀ k, k < 1792 → z k = 0) → fw_C (fw_c1 l m) (fw_v1 l m p q) l x y 1 7 z s → post (nI 1, nI 1, g, a1, a2, a3, a4, a5, a6, s7, s8, s9, s)) : wpX_rebuild post (nI 1, nI 1, G, a1, a2, a3, a4, a5, a6, a7, a8, a9, a10) := by
  refine fw_r2 (fun s7 s8 K => fw_r44_1 hl hm hlm e1 e2 e3 e4 ?_ ?_)
  · have k := (K (7 * l + m) (by omega)).2.2.1
    rw [k]
    unfold fw_c0
    rw [if_neg (fun z => hlm ((fw_diag hl hm).mp z))]
  · have K1 := fw_K1 (p := p) (q := q) hl hm hp hq K
    exact fw_r111 K1 (fun r d hr hd z z' => fw_join1 hlm hl hm hr hd z z') (fw_r145 (fun z hz => fw_r167_1 K1 hl hx hy e5 e6 (fun s hs => H _ _ _ _ z s K1 hz hs)))
/-! ===== put the first token, link the first line ===== -/
theorem fw_put {post : Int32 → St2 → Prop} {c v : Nat → Nat} {l x y : Nat} (K : fw_K c v a7 a8) (hl : l < 7) (hx : x < 16) (hy : y < 16)
    (H : ∀ r s, post r (L, nI 1, G, a1, a2, a3, a4, upd a5 0 (nI l), upd a6 0 (nI (16 * x + y)), a7, a8, a9, s)) : wpX_put post (L, nI 0, G, a1, a2, a3, a4, a5, a6, a7, a8, a9, a10) (nI l) (nI x) (nI y) := by
  unfold wpX_put
  refine fw_isPlace hl ?_
  refine br_f (by decide) ?_
  refine fw_isTime hx hy ?_
  refine br_f (by decide) ?_
  rw [fw_time]
  refine pk_lt 0 20 (fun _ => ⟨pk_in 0 20 (by omega), nm_r (e' := upd a5 0 (nI l)) rfl ⟨pk_in 0 20 (by omega), nm_r (e' := upd a6 0 (nI (16 * x + y))) rfl (nm_r (nI_1 0) ?_)⟩⟩) (fun z => absurd z (by omega))
  exact fw_count K hl hx hy (fun s _ => H _ s)
theorem fw_link {post : Int32 → St2 → Prop} {l m p q x y : Nat} (hl : l < 7) (hm : m < 7) (hlm : l ≠ m) (hp : p < 4) (hq : q < 4) (hx : x < 16) (hy : y < 16)
    (e5 : a5 0 = nI l) (e6 : a6 0 = nI (16 * x + y))
    (H : ∀ g s7 s8 s9 z s, fw_K (fw_c1 l m) (fw_v1 l m p q) s7 s8 → (∀ k, k < 1792 → z k = 0) → fw_C (fw_c1 l m) (fw_v1 l m p q) l x y 1 7 z s → post (nI 1) (nI 1, nI 1, g, upd a1 0 (nI l), upd a2 0 (nI m), upd a3 0 (nI p), upd a4 0 (nI q), a5, a6, s7, s8, s9, s)) : wpX_link post (nI 0, nI 1, G, a1, a2, a3, a4, a5, a6, a7, a8, a9, a10) (nI l) (nI m) (nI p) (nI q) := by
  unfold wpX_link
  refine fw_isPlace hl ?_
  refine br_f (by decide) ?_
  refine fw_isPlace hm ?_
  refine br_f (by decide) ?_
  refine pk_lt p 0 (fun z => absurd z (by omega)) (fun _ => pk_lt 3 p (fun z => absurd z (by omega)) (fun _ => pk_lt q 0 (fun z => absurd z (by omega)) (fun _ => pk_lt 3 q (fun z => absurd z (by omega)) (fun _ => ?_))))
  refine pk_lt 0 12 (fun _ => ⟨pk_in 0 12 (by omega), nm_r (e' := upd a1 0 (nI l)) rfl ⟨pk_in 0 12 (by omega), nm_r (e' := upd a2 0 (nI m)) rfl ⟨pk_in 0 12 (by omega), nm_r (e' := upd a3 0 (nI p)) rfl ⟨pk_in 0 12 (by omega), nm_r (e' := upd a4 0 (nI q)) rfl (nm_r (nI_1 0) ?_)⟩⟩⟩⟩) (fun z => absurd z (by omega))
  exact fw_rebuild1 hl hm hlm hp hq hx hy pk_us pk_us pk_us pk_us e5 e6 (fun g s7 s8 s9 z s K hz hs => H g s7 s8 s9 z s K hz hs)
end
end
section
section
variable {post : Int32 → Prop} {L T G : Int32} {a1 a2 a3 a4 a5 a6 a7 a8 a9 a10 : Nat → Int32}
/-! ===== possible ===== -/
theorem fw_p29h {J20 : Int32 → Prop} {x2 : Int32} {P A B t : Nat} (O : fw_one a10 P A B) (hP : P < 7) (hA : A < 16) (ht : t < 16) (hB : B ≤ t) (H : post 1) : ∃ fu, wX_possible_29 post J20 (nI P) x2 (nI t) (nI A) L T G a1 a2 a3 a4 a5 a6 a7 a8 a9 a10 fu 0 :=
  pk_loop (σ := Unit) (fun n i _ => wX_possible_29 post J20 (nI P) x2 (nI t) (nI A) L T G a1 a2 a3 a4 a5 a6 a7 a8 a9 a10 n (nI i)) (fun _ _ => True) B 0 () (by omega) trivial
    (fun n _ _ => pk_lt t B (fun z => absurd z (by omega)) (fun _ => by
      rw [fw_mk, nI_clamp (show 256 * P + 16 * A + B < 2 ^ 31 by omega)]
      exact ⟨vp_in_nI (by omega) (by omega), br_f (fun z => (O A B hA (by omega)).mp z ⟨rfl, rfl⟩) H⟩))
    (fun n i _ hi _ hw => pk_lt t i (fun z => absurd z (by omega)) (fun _ => by
      rw [fw_mk, nI_clamp (show 256 * P + 16 * A + i < 2 ^ 31 by omega)]
      exact ⟨vp_in_nI (by omega) (by omega), br_t ((O A i hA (by omega)).mpr (fun z => absurd z.2 (by omega))) (nm_r (nI_1 i) (hw () trivial))⟩))
theorem fw_p29m {J20 : Int32 → Prop} {x2 : Int32} {P A B t d : Nat} (O : fw_one a10 P A B) (hP : P < 7) (hd : d < 16) (ht : t < 16) (hB : ¬ (d = A ∧ B ≤ t)) (H : J20 (nI (d + 1))) : ∃ fu, wX_possible_29 post J20 (nI P) x2 (nI t) (nI d) L T G a1 a2 a3 a4 a5 a6 a7 a8 a9 a10 fu 0 :=
  pk_loop (σ := Unit) (fun n i _ => wX_possible_29 post J20 (nI P) x2 (nI t) (nI d) L T G a1 a2 a3 a4 a5 a6 a7 a8 a9 a10 n (nI i)) (fun _ _ => True) (t + 1) 0 () (by omega) trivial
    (fun n _ _ => pk_lt t (t + 1) (fun _ => nm_r (nI_1 d) H) (fun z => absurd z (by omega)))
    (fun n i _ hi _ hw => pk_lt t i (fun z => absurd z (by omega)) (fun _ => by
      rw [fw_mk, nI_clamp (show 256 * P + 16 * d + i < 2 ^ 31 by omega)]
      exact ⟨vp_in_nI (by omega) (by omega), br_t ((O d i hd (by omega)).mpr (fun z => hB ⟨z.1, by omega⟩)) (nm_r (nI_1 i) (hw () trivial))⟩))
theorem fw_possible {P A B s t : Nat} (O : fw_one a10 P A B) (hP : P < 7) (hs : s < 16) (ht : t < 16) (H1 : A ≤ s ∧ B ≤ t → post 1) (H0 : ¬ (A ≤ s ∧ B ≤ t) → post 0) : wpX_possible post (L, T, G, a1, a2, a3, a4, a5, a6, a7, a8, a9, a10) (nI P) (nI s) (nI t) := by
  unfold wpX_possible
  refine fw_isPlace hP ?_
  refine br_f (by decide) ?_
  refine fw_isTime hs ht ?_
  refine br_f (by decide) ?_
  by_cases h : A ≤ s ∧ B ≤ t
  · exact pk_loop (σ := Unit) (fun n i _ => wX_possible_20 post (nI P) (nI s) (nI t) L T G a1 a2 a3 a4 a5 a6 a7 a8 a9 a10 n (nI i)) (fun _ _ => True) A 0 () (by omega) trivial
      (fun n _ _ => pk_lt s A (fun z => absurd z (by omega)) (fun _ => fw_p29h O hP (by omega) ht h.2 (H1 h)))
      (fun n i _ hi _ hw => pk_lt s i (fun z => absurd z (by omega)) (fun _ => fw_p29m O hP (by omega) ht (fun z => absurd z.1 (by omega)) (hw () trivial)))
  · exact pk_loop (σ := Unit) (fun n i _ => wX_possible_20 post (nI P) (nI s) (nI t) L T G a1 a2 a3 a4 a5 a6 a7 a8 a9 a10 n (nI i)) (fun _ _ => True) (s + 1) 0 () (by omega) trivial
      (fun n _ _ => pk_lt s (s + 1) (fun _ => H0 h) (fun z => absurd z (by omega)))
      (fun n i _ hi _ hw => pk_lt s i (fun z => absurd z (by omega)) (fun _ => fw_p29m O hP (by omega) ht (fun z => h ⟨by omega, z.2⟩) (hw () trivial)))
/-! ===== firstMark, frontAt, front ===== -/
theorem fw_fmh {P A B k : Nat} (O : fw_one a10 P A B) (hP : P < 7) (hA : A < 16) (hk : k ≤ 16) (hB : B < k) (H : post (nI B)) : wpX_firstMark post (L, T, G, a1, a2, a3, a4, a5, a6, a7, a8, a9, a10) (nI P) (nI A) (nI k) :=
  pk_loop (σ := Unit) (fun n i _ => wX_firstMark_3 post (nI P) (nI A) (nI k) L T G a1 a2 a3 a4 a5 a6 a7 a8 a9 a10 n (nI i)) (fun _ _ => True) B 0 () (by omega) trivial
    (fun n _ _ => pk_le k B (fun z => absurd z (by omega)) (fun _ => by
      rw [fw_mk, nI_clamp (show 256 * P + 16 * A + B < 2 ^ 31 by omega)]
      exact ⟨vp_in_nI (by omega) (by omega), br_f (fun z => (O A B hA (by omega)).mp z ⟨rfl, rfl⟩) H⟩))
    (fun n i _ hi _ hw => pk_le k i (fun z => absurd z (by omega)) (fun _ => by
      rw [fw_mk, nI_clamp (show 256 * P + 16 * A + i < 2 ^ 31 by omega)]
      exact ⟨vp_in_nI (by omega) (by omega), br_t ((O A i hA (by omega)).mpr (fun z => absurd z.2 (by omega))) (nm_r (nI_1 i) (hw () trivial))⟩))
theorem fw_fmm {P A B k d : Nat} (O : fw_one a10 P A B) (hP : P < 7) (hd : d < 16) (hk : k ≤ 16) (hB : ¬ (d = A ∧ B < k)) (H : post (nI k)) : wpX_firstMark post (L, T, G, a1, a2, a3, a4, a5, a6, a7, a8, a9, a10) (nI P) (nI d) (nI k) :=
  pk_loop (σ := Unit) (fun n i _ => wX_firstMark_3 post (nI P) (nI d) (nI k) L T G a1 a2 a3 a4 a5 a6 a7 a8 a9 a10 n (nI i)) (fun _ _ => True) k 0 () (by omega) trivial
    (fun n _ _ => pk_le k k (fun _ => H) (fun z => absurd z (by omega)))
    (fun n i _ hi _ hw => pk_le k i (fun z => absurd z (by omega)) (fun _ => by
      rw [fw_mk, nI_clamp (show 256 * P + 16 * d + i < 2 ^ 31 by omega)]
      exact ⟨vp_in_nI (by omega) (by omega), br_t ((O d i hd (by omega)).mpr (fun z => hB ⟨z.1, by omega⟩)) (nm_r (nI_1 i) (hw () trivial))⟩))
theorem fw_frontAt {P A B : Nat} (O : fw_one a10 P A B) (hP : P < 7) (H1 : A < 16 ∧ B < 16 → post (nI (16 * A + B))) (H0 : ¬ (A < 16 ∧ B < 16) → post (-1)) : wpX_frontAt post (L, T, G, a1, a2, a3, a4, a5, a6, a7, a8, a9, a10) (nI P) 0 := by
  unfold wpX_frontAt
  refine fw_isPlace hP ?_
  refine br_f (by decide) ?_
  refine br_t (by decide) ?_
  by_cases h : A < 16 ∧ B < 16
  · refine pk_loop (σ := Unit) (fun n i _ => wX_frontAt_22 post (nI P) L T G a1 a2 a3 a4 a5 a6 a7 a8 a9 a10 n (nI 0) (nI 16) (nI i)) (fun _ _ => True) A 0 () (by omega) trivial
      (fun n _ _ => pk_le 16 A (fun z => absurd z (by omega)) (fun _ => fw_fmh (k := 16) O hP h.1 (by omega) h.2 (pk_le 16 B (fun z => absurd z (by omega)) (fun _ => br_t rfl ?_))))
      (fun n i _ hi _ hw => pk_le 16 i (fun z => absurd z (by omega)) (fun _ => fw_fmm (k := 16) O hP (by omega) (by omega) (fun z => absurd z.1 (by omega)) (pk_le 16 16 (fun _ => nm_r (nI_1 i) (hw () trivial)) (fun z => absurd z (by omega)))))
    rw [fw_time]
    exact H1 h
  · exact pk_loop (σ := Unit) (fun n i _ => wX_frontAt_22 post (nI P) L T G a1 a2 a3 a4 a5 a6 a7 a8 a9 a10 n (nI 0) (nI 16) (nI i)) (fun _ _ => True) 16 0 () (by omega) trivial
      (fun n _ _ => pk_le 16 16 (fun _ => H0 h) (fun z => absurd z (by omega)))
      (fun n i _ hi _ hw => pk_le 16 i (fun z => absurd z (by omega)) (fun _ => fw_fmm (k := 16) O hP (by omega) (by omega) (fun z => h ⟨by omega, z.2⟩) (pk_le 16 16 (fun _ => nm_r (nI_1 i) (hw () trivial)) (fun z => absurd z (by omega)))))
theorem fw_front {P A B : Nat} (O : fw_one a10 P A B) (hP : P < 7) (H1 : A < 16 ∧ B < 16 → post 1) (H0 : ¬ (A < 16 ∧ B < 16) → post 0) : wpX_front post (L, T, G, a1, a2, a3, a4, a5, a6, a7, a8, a9, a10) (nI P) := by
  unfold wpX_front
  refine fw_isPlace hP ?_
  refine br_f (by decide) ?_
  by_cases h : A < 16 ∧ B < 16
  · have after : ∀ n i, i ≤ 16 → A < i → 16 - i < n → wX_front_17 post (nI P) L T G a1 a2 a3 a4 a5 a6 a7 a8 a9 a10 n (nI 1) (nI B) (nI i) := by
      intro n
      induction n with
      | zero => intro i _ _ h3; omega
      | succ n ih =>
        intro i h1 h2 h3
        refine pk_le 16 i (fun _ => H1 h) (fun z => fw_fmm (k := B) O hP (by omega) (by omega) (fun z => absurd z.1 (by omega)) ?_)
        exact pk_le B B (fun _ => nm_r (e' := nI 1) (by decide) (nm_r (nI_1 i) (ih (i + 1) (by omega) (by omega) (by omega)))) (fun z => absurd z (by omega))
    have before : ∀ n i, i ≤ A → 16 - i < n → wX_front_17 post (nI P) L T G a1 a2 a3 a4 a5 a6 a7 a8 a9 a10 n (nI 0) (nI 16) (nI i) := by
      intro n
      induction n with
      | zero => intro i _ h3; omega
      | succ n ih =>
        intro i h1 h3
        refine pk_le 16 i (fun z => absurd z (by omega)) (fun z => ?_)
        by_cases e : i = A
        · subst e
          refine fw_fmh (k := 16) O hP h.1 (by omega) h.2 ?_
          exact pk_le 16 B (fun z => absurd z (by omega)) (fun _ => nm_r (e' := nI 1) (by decide) (nm_r (nI_1 i) (after n (i + 1) (by omega) (by omega) (by omega))))
        · refine fw_fmm (k := 16) O hP (by omega) (by omega) (fun z => e z.1) ?_
          exact pk_le 16 16 (fun _ => nm_r (e' := nI 0) (by decide) (nm_r (nI_1 i) (ih (i + 1) (by omega) (by omega)))) (fun z => absurd z (by omega))
    exact ⟨17, before 17 0 (by omega) (by omega)⟩
  · exact pk_loop (σ := Unit) (fun n i _ => wX_front_17 post (nI P) L T G a1 a2 a3 a4 a5 a6 a7 a8 a9 a10 n (nI 0) (nI 16) (nI i)) (fun _ _ => True) 16 0 () (by omega) trivial
      (fun n _ _ => pk_le 16 16 (fun _ => H0 h) (fun z => absurd z (by omega)))
      (fun n i _ hi _ hw => pk_le 16 i (fun z => absurd z (by omega)) (fun _ => fw_fmm (k := 16) O hP (by omega) (by omega) (fun z => h ⟨by omega, z.2⟩) (pk_le 16 16 (fun _ => nm_r (e' := nI 0) (by decide) (nm_r (nI_1 i) (hw () trivial))) (fun z => absurd z (by omega)))))
/-! ===== reaches, ready: one token ===== -/
theorem fw_reaches {c v : Nat → Nat} {x2 x3 : Int32} {Q P : Nat} (K : fw_K c v a7 a8) (hQ : Q < 7) (hP : P < 7) (e5 : a5 0 = nI Q) (H0 : post 0) (H1 : post 1) : wpX_reaches post (L, T, G, a1, a2, a3, a4, a5, a6, a7, a8, a9, a10) 0 (nI P) x2 x3 := by
  obtain ⟨k1, k2, k3, k4⟩ := K (7 * Q + P) (by omega)
  refine ⟨pk_in 0 20 (by omega), nm_r (e' := nI (7 * Q + P)) (by rw [sb_cl0, e5, fw_row]) ⟨pk_in 0 20 (by omega), nm_e ⟨pk_in 0 20 (by omega), nm_e (nm_r (fw_19 _) ⟨2, pk_in (7 * Q + P) 49 (by omega), ?_⟩)⟩⟩⟩
  have out : ∀ y2 y3, c (7 * Q + P) = 1 → wX_reaches_46 post (nI (7 * Q + P)) y2 y3 L T G a1 a2 a3 a4 a5 a6 a7 a8 a9 a10 1 (nI (19 * (7 * Q + P) + 1)) := by
    intro y2 y3 e
    refine ⟨pk_in (7 * Q + P) 49 (by omega), ?_⟩
    rw [nI_clamp (show 7 * Q + P < 2 ^ 31 by omega), k3, e, fw_19, nI_add]
    exact br_t (fw_ler _) H0
  rw [nI_clamp (show 7 * Q + P < 2 ^ 31 by omega), k3, fw_19, nI_add]
  exact pk_le (19 * (7 * Q + P) + c (7 * Q + P)) (19 * (7 * Q + P)) (fun _ => H0) (fun z => ⟨vp_in_nI (by omega) (by omega), br_c (fun _ => nm_r (nI_1 _) (out _ _ (by omega))) (fun _ => ⟨vp_in_nI (by omega) (by omega), br_c (fun _ => nm_r (nI_1 _) (out _ _ (by omega))) (fun _ => H1)⟩)⟩)
theorem fw_ready {c v : Nat → Nat} {Q X Y P s t : Nat} (K : fw_K c v a7 a8) (hQ : Q < 7) (hX : X < 16) (hY : Y < 16) (hP : P < 7) (hs : s < 16) (ht : t < 16) (e5 : a5 0 = nI Q) (e6 : a6 0 = nI (16 * X + Y))
    (H1 : Q = P ∧ X = s ∧ Y = t → post 1) (H0 : ¬ (Q = P ∧ X = s ∧ Y = t) → post 0) : wpX_ready post (L, nI 1, G, a1, a2, a3, a4, a5, a6, a7, a8, a9, a10) (nI P) (nI s) (nI t) := by
  unfold wpX_ready
  refine fw_isPlace hP ?_
  refine br_f (by decide) ?_
  refine fw_isTime hs ht ?_
  refine br_f (by decide) ⟨2, ?_⟩
  have no : ¬ (Q = P ∧ X = s ∧ Y = t) → wX_ready_63 post (wX_ready_23 post (nI P) (nI s) (nI t) L (nI 1) G a1 a2 a3 a4 a5 a6 a7 a8 a9 a10 1) (nI P) (nI s) (nI t) 0 0 L (nI 1) G a1 a2 a3 a4 a5 a6 a7 a8 a9 a10 := by
    intro h
    refine br_t rfl (nm_r (e' := nI 0) (by decide) (br_t rfl (fw_reaches K hQ hP e5 (br_t rfl (nm_r (e' := nI 1) (by decide) ?_)) (br_f (by decide) (H0 h)))))
    exact pk_le 1 1 (fun _ => pk_le 0 0 (fun _ => H0 h) (fun z => absurd z (by omega))) (fun z => absurd z (by omega))
  refine pk_le 1 0 (fun z => absurd z (by omega)) (fun _ => ⟨pk_in 0 20 (by omega), ?_⟩)
  rw [sb_cl0, e5, e6, fw_time]
  refine pk_eq Q P (fun z => ⟨pk_in 0 20 (by omega), pk_eq (16 * X + Y) (16 * s + t) (fun z2 => ?_) (fun z2 => no (fun h => z2 (by omega)))⟩) (fun z => no (fun h => z h.1))
  refine br_f (by decide) (nm_r (e' := nI 1) (by decide) (br_f (by decide) (nm_r (e' := nI 1) (by decide) ?_)))
  exact pk_le 1 1 (fun _ => pk_le 1 0 (fun z => absurd z (by omega)) (fun _ => H1 ⟨z, by omega, by omega⟩)) (fun z => absurd z (by omega))
/-! ===== shortest, tokenAt ===== -/
theorem fw_shortest {i j : Nat} (hi : i < 7) (hj : j < 7) (H : post (a7 (7 * i + j))) : wpX_shortest post (L, T, G, a1, a2, a3, a4, a5, a6, a7, a8, a9, a10) (nI i) (nI j) := by
  unfold wpX_shortest
  refine fw_isPlace hi ?_
  refine br_f (by decide) ?_
  refine fw_isPlace hj ?_
  refine br_f (by decide) ?_
  rw [fw_row, nI_clamp (show 7 * i + j < 2 ^ 31 by omega)]
  exact ⟨vp_in_nI (by omega) (by omega), H⟩
theorem fw_tokh {l k : Nat} (e5 : a5 0 = nI l) (e6 : a6 0 = nI k) (H : post 0) : wpX_tokenAt post (L, nI 1, G, a1, a2, a3, a4, a5, a6, a7, a8, a9, a10) (nI l) (nI k) := by
  refine ⟨1, pk_le 1 0 (fun z => absurd z (by omega)) (fun _ => ⟨pk_in 0 20 (by omega), ?_⟩)⟩
  rw [sb_cl0, e5, e6]
  exact br_t rfl ⟨pk_in 0 20 (by omega), br_t rfl H⟩
theorem fw_tokm {l Q : Nat} {w : Int32} (hl : l < 7) (hQ : Q < 7) (hlQ : Q ≠ l) (e5 : a5 0 = nI Q) (H : post (-1)) : wpX_tokenAt post (L, nI 1, G, a1, a2, a3, a4, a5, a6, a7, a8, a9, a10) (nI l) w := by
  refine ⟨2, pk_le 1 0 (fun z => absurd z (by omega)) (fun _ => ⟨pk_in 0 20 (by omega), ?_⟩)⟩
  rw [sb_cl0, e5]
  exact pk_eq Q l (fun z => absurd z hlQ) (fun _ => nm_r (e' := nI 1) (by decide) (pk_le 1 1 (fun _ => H) (fun z => absurd z (by omega))))
end
end
section
section
variable {post : Int32 → St2 → Prop} {L T G : Int32} {a1 a2 a3 a4 a5 a6 a7 a8 a9 a10 : Nat → Int32}
/-! ===== pass over the one line ===== -/
theorem fw_passNo {l x y Q : Nat} (hl : l < 7) (hQ : Q < 7) (hlQ : Q ≠ l) (hx : x < 16) (hy : y < 16) (e1 : a1 0 = nI l) (e5 : a5 0 = nI Q)
    (H : post (-1) (nI 1, nI 1, G, a1, a2, a3, a4, a5, a6, a7, a8, a9, a10)) : wpX_pass post (nI 1, nI 1, G, a1, a2, a3, a4, a5, a6, a7, a8, a9, a10) 0 (nI x) (nI y) := by
  refine pk_lt 0 0 (fun z => absurd z (by omega)) (fun _ => pk_le 1 0 (fun z => absurd z (by omega)) (fun _ => fw_isTime hx hy (br_f (by decide) ⟨pk_in 0 12 (by omega), ?_⟩)))
  rw [sb_cl0, e1]
  exact fw_tokm hl hQ hlQ e5 (br_f (by decide) H)
theorem fw_passOut {l x y p q : Nat} (hl : l < 7) (hx : x < 16) (hy : y < 16) (hp : p < 4) (hq : q < 4) (hi : ¬ (x + p ≤ 15 ∧ y + q ≤ 15)) (e1 : a1 0 = nI l) (e3 : a3 0 = nI p) (e4 : a4 0 = nI q) (e5 : a5 0 = nI l) (e6 : a6 0 = nI (16 * x + y))
    (H : post (-2) (nI 1, nI 1, G, a1, a2, a3, a4, a5, a6, a7, a8, a9, a10)) : wpX_pass post (nI 1, nI 1, G, a1, a2, a3, a4, a5, a6, a7, a8, a9, a10) 0 (nI x) (nI y) := by
  refine pk_lt 0 0 (fun z => absurd z (by omega)) (fun _ => pk_le 1 0 (fun z => absurd z (by omega)) (fun _ => fw_isTime hx hy (br_f (by decide) ⟨pk_in 0 12 (by omega), ?_⟩)))
  rw [sb_cl0, e1, fw_time]
  refine fw_tokh e5 e6 (br_t (by decide) ⟨pk_in 0 12 (by omega), ?_⟩)
  rw [e3, e4, nI_add, nI_add]
  exact pk_lt 15 (x + p) (fun _ => H) (fun z => ⟨pk_in 0 12 (by omega), pk_le (y + q) 15 (fun z2 => absurd ⟨z, z2⟩ hi) (fun _ => H)⟩)
theorem fw_passIn {c v : Nat → Nat} {l m x y p q : Nat} (K : fw_K c v a7 a8) (hl : l < 7) (hm : m < 7) (hx : x < 16) (hy : y < 16) (hp : p < 4) (hq : q < 4) (hi : x + p ≤ 15 ∧ y + q ≤ 15) (e1 : a1 0 = nI l) (e2 : a2 0 = nI m) (e3 : a3 0 = nI p) (e4 : a4 0 = nI q) (e5 : a5 0 = nI l) (e6 : a6 0 = nI (16 * x + y))
    (H : ∀ s1 s2, fw_C c v l x y (-1) 7 a10 s1 → fw_C c v m (x + p) (y + q) 1 7 s1 s2 → post 0 (nI 1, nI 1, G, a1, a2, a3, a4, upd a5 0 (nI m), upd a6 0 (nI (16 * (x + p) + (y + q))), a7, a8, a9, s2)) : wpX_pass post (nI 1, nI 1, G, a1, a2, a3, a4, a5, a6, a7, a8, a9, a10) 0 (nI x) (nI y) := by
  refine pk_lt 0 0 (fun z => absurd z (by omega)) (fun _ => pk_le 1 0 (fun z => absurd z (by omega)) (fun _ => fw_isTime hx hy (br_f (by decide) ⟨pk_in 0 12 (by omega), ?_⟩)))
  rw [sb_cl0, e1, fw_time]
  refine fw_tokh e5 e6 (br_t (by decide) ⟨pk_in 0 12 (by omega), ?_⟩)
  rw [e3, e4, nI_add, nI_add]
  refine pk_lt 15 (x + p) (fun z => absurd z (by omega)) (fun z => ⟨pk_in 0 12 (by omega), pk_le (y + q) 15 (fun z2 => ⟨pk_in 0 20 (by omega), pk_in 0 20 (by omega), ?_⟩) (fun z => absurd z (by omega))⟩)
  rw [sb_cl0, e5, e6]
  refine fw_count K hl hx hy (fun s1 h1 => ⟨pk_in 0 12 (by omega), pk_in 0 20 (by omega), nm_r (e' := upd a5 0 (nI m)) (by rw [e2]) ⟨pk_in 0 20 (by omega), pk_in 0 12 (by omega), pk_in 0 12 (by omega), pk_in 0 20 (by omega), nm_r (e' := upd a6 0 (nI (16 * (x + p) + (y + q)))) ?_ ⟨pk_in 0 20 (by omega), pk_in 0 20 (by omega), ?_⟩⟩⟩)
  · rw [e3, e4, e6, fw_time, nI_add, show 16 * x + y + (16 * p + q) = 16 * (x + p) + (y + q) by omega]
  · rw [pk_us, pk_us]
    exact fw_count K hm (by omega) (by omega) (fun s2 h2 => H s1 s2 h1 h2)
end
/-! ===== the marks behind link, and behind pass ===== -/
theorem fw_c1lm {l m : Nat} : fw_c1 l m (7 * l + m) = 1 := by unfold fw_c1; rw [if_pos (Or.inr rfl)]
theorem fw_c1d {l m : Nat} (d : Nat) : fw_c1 l m (7 * d + d) = 1 := by unfold fw_c1; rw [if_pos (Or.inl (by omega))]
theorem fw_c1ml {l m : Nat} (hl : l < 7) (hm : m < 7) (hlm : l ≠ m) : fw_c1 l m (7 * m + l) = 0 := by
  unfold fw_c1
  rw [if_neg]
  rintro (z | z)
  · exact hlm ((fw_diag hm hl).mp z).symm
  · exact hlm ((fw_pair hl hm).mp z).2
theorem fw_v1lm {l m p q : Nat} : fw_v1 l m p q (7 * l + m) = 64 * p + q := by unfold fw_v1; rw [if_pos rfl]
theorem fw_v1d {l m p q : Nat} (hlm : l ≠ m) : fw_v1 l m p q (7 * l + l) = 0 := by unfold fw_v1; rw [if_neg (by omega)]
theorem fw_ifle {P : Prop} {d : Decidable P} : ((0 : Int32) + (if P then 1 else 0) ≤ 0 ↔ ¬ P) := by
  by_cases h : P
  · rw [if_pos h]
    exact ⟨fun z => absurd z (by decide), fun z => absurd h z⟩
  · rw [if_neg h]
    exact ⟨fun _ => h, fun _ => by decide⟩
theorem fw_oneM {l m p q x y : Nat} {z s : Nat → Int32} (hl : l < 7) (hm : m < 7) (hp : p < 4) (hq : q < 4) (hz : ∀ k, k < 1792 → z k = 0) (h : fw_C (fw_c1 l m) (fw_v1 l m p q) l x y 1 7 z s) : fw_one s m (x + p) (y + q) := by
  intro α β hα hβ
  rw [h m α β hm hα hβ, hz _ (by omega), fw_c1lm, fw_v1lm, show (64 * p + q) / 64 = p by omega, show (64 * p + q) % 64 = q by omega, fw_ifle]
  exact ⟨fun t u => t ⟨hm, rfl, u⟩, fun t u => t u.2.2⟩
theorem fw_oneL {l m p q x y : Nat} {z s : Nat → Int32} (hl : l < 7) (hm : m < 7) (hlm : l ≠ m) (hz : ∀ k, k < 1792 → z k = 0) (h : fw_C (fw_c1 l m) (fw_v1 l m p q) l x y 1 7 z s) : fw_one s l x y := by
  intro α β hα hβ
  rw [h l α β hl hα hβ, hz _ (by omega), fw_c1d, fw_v1d hlm, fw_ifle]
  exact ⟨fun t u => t ⟨hl, rfl, u⟩, fun t u => t u.2.2⟩
theorem fw_oneP {l m p q x y X Y : Nat} {z s s1 s2 : Nat → Int32} (hl : l < 7) (hm : m < 7) (hlm : l ≠ m) (hz : ∀ k, k < 1792 → z k = 0) (h : fw_C (fw_c1 l m) (fw_v1 l m p q) l x y 1 7 z s)
    (h1 : fw_C (fw_c1 l m) (fw_v1 l m p q) l x y (-1) 7 s s1) (h2 : fw_C (fw_c1 l m) (fw_v1 l m p q) m X Y 1 7 s1 s2) : fw_one s2 l 16 0 := by
  intro α β hα hβ
  rw [h2 l α β hl hα hβ, h1 l α β hl hα hβ, h l α β hl hα hβ, hz _ (by omega), fw_c1ml hl hm hlm, if_neg (c := l < 7 ∧ (0 : Nat) = 1 ∧ _) (fun t => absurd t.2.1 (by omega))]
  refine ⟨fun _ u => absurd u.1 (by omega), fun _ => ?_⟩
  split <;> decide
end
section
section
variable {post : Int32 → St0 → Prop} {L T G : Int32} {a1 a2 a3 a4 a5 a6 a7 a8 a9 a10 : Nat → Int32} {mc ms kc ks : Nat}
/-! ===== the law, from its end to its head ===== -/
theorem fw_338 {l m p q : Nat} {z0 z1 : Int32} (hl : l < 7) (hm : m < 7) (hlm : l ≠ m) (K : fw_K (fw_c1 l m) (fw_v1 l m p q) a7 a8) (hz : z1 = z0) (H : post 1 ()) : wL_lawOf_338 post mc ms (nI l) (nI m) z0 z1 kc ks L T G a1 a2 a3 a4 a5 a6 a7 a8 a9 a10 := by
  refine br_t hz (fw_shortest hl hm (br_t ?_ (fw_shortest hm hl (br_t ?_ H))))
  · rw [(K (7 * l + m) (by omega)).2.2.1, fw_c1lm]
    rfl
  · rw [(K (7 * m + l) (by omega)).2.2.1, fw_c1ml hl hm hlm]
    rfl
theorem fw_292 {l m x y p q s t b Q X Y : Nat} {z0 z1 : Int32} (hl : l < 7) (hm : m < 7) (hlm : l ≠ m) (hx : x < 16) (hy : y < 16) (hp : p < 4) (hq : q < 4) (hs : s < 16) (ht : t < 16) (hb : b ≤ 1) (hQ : Q < 7) (hX : X < 16) (hY : Y < 16)
    (K : fw_K (fw_c1 l m) (fw_v1 l m p q) a7 a8) (e5 : a5 0 = nI Q) (e6 : a6 0 = nI (16 * X + Y)) (hr : (Q = m ∧ X = s ∧ Y = t) ↔ (b = 1 ∧ s = x + p ∧ t = y + q)) (hz : z1 = z0) (H : post 1 ()) :
    wL_lawOf_292 post mc ms (nI l) (nI m) (nI x) (nI y) (nI p) (nI q) (nI s) (nI t) (nI b) z0 z1 kc ks L (nI 1) G a1 a2 a3 a4 a5 a6 a7 a8 a9 a10 := by
  unfold wL_lawOf_292
  rw [nI_add, nI_add]
  refine br_t hz (fw_ready K hQ hX hY hm hs ht e5 e6 (fun h => ?_) (fun h => ?_))
  · have h' := hr.mp h
    exact pk_eq b 0 (fun z => absurd z (by omega)) (fun _ => pk_eq s (x + p) (fun _ => pk_eq t (y + q) (fun _ => fw_338 hl hm hlm K rfl H) (fun z => absurd h'.2.2 z)) (fun z => absurd h'.2.1 z))
  · have h' : ¬ (b = 1 ∧ s = x + p ∧ t = y + q) := fun z => h (hr.mpr z)
    exact pk_eq b 0 (fun _ => fw_338 hl hm hlm K rfl H) (fun z => pk_eq s (x + p) (fun z1 => pk_eq t (y + q) (fun z2 => absurd ⟨by omega, z1, z2⟩ h') (fun _ => fw_338 hl hm hlm K rfl H)) (fun _ => fw_338 hl hm hlm K rfl H))
/-- behind frontAt: the two roads, in range and out of it -/
theorem fw_207in {l m x y p q s t : Nat} {z0 z1 : Int32} {z : Nat → Int32} (hl : l < 7) (hm : m < 7) (hlm : l ≠ m) (hx : x < 16) (hy : y < 16) (hp : p < 4) (hq : q < 4) (hs : s < 16) (ht : t < 16)
    (K : fw_K (fw_c1 l m) (fw_v1 l m p q) a7 a8) (hz0 : ∀ k, k < 1792 → z k = 0) (hC : fw_C (fw_c1 l m) (fw_v1 l m p q) l x y 1 7 z a10) (e1 : a1 0 = nI l) (e2 : a2 0 = nI m) (e3 : a3 0 = nI p) (e4 : a4 0 = nI q) (e5 : a5 0 = nI l) (e6 : a6 0 = nI (16 * x + y)) (hi : x + p ≤ 15 ∧ y + q ≤ 15) (hz : z1 = z0) (H : post 1 ()) :
    wL_lawOf_207 post mc ms (nI l) (nI m) (nI x) (nI y) (nI p) (nI q) (nI s) (nI t) (nI 1) z0 z1 kc ks (nI 1) (nI 1) G a1 a2 a3 a4 a5 a6 a7 a8 a9 a10 := by
  refine br_t hz (fw_ready K hl hx hy hl hx hy e5 e6 (fun _ => br_t rfl ?_) (fun h => absurd ⟨rfl, rfl, rfl⟩ h))
  refine fw_passIn K hl hm hx hy hp hq hi e1 e2 e3 e4 e5 e6 (fun s1 s2 h1 h2 => br_f (by decide) (br_t rfl ?_))
  refine fw_front (fw_oneP hl hm hlm hz0 hC h1 h2) hl (fun h => absurd h.1 (by omega)) (fun _ => br_f (by decide) (br_t rfl ?_))
  refine fw_passNo hl hm (fun h => hlm h.symm) hx hy e1 pk_us (br_f (by decide) ?_)
  exact fw_292 (b := 1) (Q := m) (X := x + p) (Y := y + q) hl hm hlm hx hy hp hq hs ht (by omega) hm (by omega) (by omega) K pk_us pk_us ⟨fun h => ⟨rfl, h.2.1.symm, h.2.2.symm⟩, fun h => ⟨rfl, h.2.1.symm, h.2.2.symm⟩⟩ rfl H
theorem fw_207out {l m x y p q s t : Nat} {z0 z1 : Int32} {z : Nat → Int32} (hl : l < 7) (hm : m < 7) (hlm : l ≠ m) (hx : x < 16) (hy : y < 16) (hp : p < 4) (hq : q < 4) (hs : s < 16) (ht : t < 16)
    (K : fw_K (fw_c1 l m) (fw_v1 l m p q) a7 a8) (hz0 : ∀ k, k < 1792 → z k = 0) (hC : fw_C (fw_c1 l m) (fw_v1 l m p q) l x y 1 7 z a10) (e1 : a1 0 = nI l) (e2 : a2 0 = nI m) (e3 : a3 0 = nI p) (e4 : a4 0 = nI q) (e5 : a5 0 = nI l) (e6 : a6 0 = nI (16 * x + y)) (hi : ¬ (x + p ≤ 15 ∧ y + q ≤ 15)) (hz : z1 = z0) (H : post 1 ()) :
    wL_lawOf_207 post mc ms (nI l) (nI m) (nI x) (nI y) (nI p) (nI q) (nI s) (nI t) (nI 0) z0 z1 kc ks (nI 1) (nI 1) G a1 a2 a3 a4 a5 a6 a7 a8 a9 a10 := by
  refine br_t hz (fw_ready K hl hx hy hl hx hy e5 e6 (fun _ => br_t rfl ?_) (fun h => absurd ⟨rfl, rfl, rfl⟩ h))
  refine fw_passOut hl hx hy hp hq hi e1 e3 e4 e5 e6 (br_t rfl (br_t rfl ?_))
  refine fw_front (fw_oneL hl hm hlm hz0 hC) hl (fun _ => br_t rfl (br_t rfl ?_)) (fun h => absurd ⟨hx, hy⟩ h)
  refine fw_passOut hl hx hy hp hq hi e1 e3 e4 e5 e6 (br_t rfl ?_)
  exact fw_292 (b := 0) (Q := l) (X := x) (Y := y) hl hm hlm hx hy hp hq hs ht (by omega) hl hx hy K e5 e6 ⟨fun h => absurd h.1 hlm, fun h => absurd h.1 (by omega)⟩ rfl H
theorem fw_173 {l m x y p q s t b : Nat} {z0 z1 : Int32} {z : Nat → Int32} (hl : l < 7) (hm : m < 7) (hlm : l ≠ m) (hx : x < 16) (hy : y < 16) (hp : p < 4) (hq : q < 4) (hs : s < 16) (ht : t < 16)
    (K : fw_K (fw_c1 l m) (fw_v1 l m p q) a7 a8) (hz0 : ∀ k, k < 1792 → z k = 0) (hC : fw_C (fw_c1 l m) (fw_v1 l m p q) l x y 1 7 z a10) (e1 : a1 0 = nI l) (e2 : a2 0 = nI m) (e3 : a3 0 = nI p) (e4 : a4 0 = nI q) (e5 : a5 0 = nI l) (e6 : a6 0 = nI (16 * x + y)) (hb : (b = 1 ∧ x + p ≤ 15 ∧ y + q ≤ 15) ∨ (b = 0 ∧ ¬ (x + p ≤ 15 ∧ y + q ≤ 15))) (hz : z1 = z0) (H : post 1 ()) :
    wL_lawOf_173 post mc ms (nI l) (nI m) (nI x) (nI y) (nI p) (nI q) (nI s) (nI t) (nI b) z0 z1 kc ks (nI 1) (nI 1) G a1 a2 a3 a4 a5 a6 a7 a8 a9 a10 := by
  refine br_t hz (fw_frontAt (fw_oneM hl hm hp hq hz0 hC) hm (fun h => ?_) (fun h => ?_))
  · rcases hb with ⟨hb, hi⟩ | ⟨hb, hi⟩
    · subst hb
      refine br_f (by decide) (fw_207in hl hm hlm hx hy hp hq hs ht K hz0 hC e1 e2 e3 e4 e5 e6 hi ?_ H)
      rw [nI_add, fw_time, nI_add, show 16 * (x + p) + y + q = 16 * (x + p) + (y + q) by omega]
    · exact absurd ⟨by omega, by omega⟩ hi
  · rcases hb with ⟨hb, hi⟩ | ⟨hb, hi⟩
    · exact absurd ⟨by omega, by omega⟩ h
    · subst hb
      exact br_t rfl (fw_207out hl hm hlm hx hy hp hq hs ht K hz0 hC e1 e2 e3 e4 e5 e6 hi rfl H)
theorem fw_135 {l m x y p q s t b : Nat} {z : Nat → Int32} (hl : l < 7) (hm : m < 7) (hlm : l ≠ m) (hx : x < 16) (hy : y < 16) (hp : p < 4) (hq : q < 4) (hs : s < 16) (ht : t < 16)
    (K : fw_K (fw_c1 l m) (fw_v1 l m p q) a7 a8) (hz0 : ∀ k, k < 1792 → z k = 0) (hC : fw_C (fw_c1 l m) (fw_v1 l m p q) l x y 1 7 z a10) (e1 : a1 0 = nI l) (e2 : a2 0 = nI m) (e3 : a3 0 = nI p) (e4 : a4 0 = nI q) (e5 : a5 0 = nI l) (e6 : a6 0 = nI (16 * x + y)) (hb : (b = 1 ∧ x + p ≤ 15 ∧ y + q ≤ 15) ∨ (b = 0 ∧ ¬ (x + p ≤ 15 ∧ y + q ≤ 15))) (H : post 1 ()) :
    wL_lawOf_135 post mc ms (nI l) (nI m) (nI x) (nI y) (nI p) (nI q) (nI s) (nI t) (nI b) kc ks (nI 1) (nI 1) G a1 a2 a3 a4 a5 a6 a7 a8 a9 a10 := by
  unfold wL_lawOf_135
  rw [nI_add, nI_add]
  refine fw_possible (fw_oneM hl hm hp hq hz0 hC) hm hs ht (fun h => ?_) (fun h => ?_)
  · exact pk_lt s (x + p) (fun z => absurd h.1 (by omega)) (fun _ => pk_lt t (y + q) (fun z => absurd h.2 (by omega)) (fun _ => fw_173 hl hm hlm hx hy hp hq hs ht K hz0 hC e1 e2 e3 e4 e5 e6 hb rfl H))
  · exact pk_lt s (x + p) (fun _ => fw_173 hl hm hlm hx hy hp hq hs ht K hz0 hC e1 e2 e3 e4 e5 e6 hb rfl H) (fun z1 => pk_lt t (y + q) (fun _ => fw_173 hl hm hlm hx hy hp hq hs ht K hz0 hC e1 e2 e3 e4 e5 e6 hb rfl H) (fun z2 => absurd ⟨z1, z2⟩ h))
end
/-- the whole of lawOf -/
theorem fw_lawOf {post : Int32 → St0 → Prop} (p0 p1 p2 p3 p4 : Int32) (H : post 1 ()) : wpL_lawOf post 11 2913 () p0 p1 p2 p3 p4 := by
  obtain ⟨u, hu, eu⟩ := pk_andE p0 (m := 255) 8 (by decide)
  obtain ⟨w, hw, ew⟩ := pk_andE (p0 >>> ((8 : Int32) &&& 31)) (m := 255) 8 (by decide)
  obtain ⟨x, hx, ex⟩ := pk_andE p1 (m := 15) 4 (by decide)
  obtain ⟨y, hy, ey⟩ := pk_andE (p1 >>> ((4 : Int32) &&& 31)) (m := 15) 4 (by decide)
  obtain ⟨p, hp, ep⟩ := pk_andE p2 (m := 3) 2 (by decide)
  obtain ⟨q, hq, eqq⟩ := pk_andE (p2 >>> ((2 : Int32) &&& 31)) (m := 3) 2 (by decide)
  obtain ⟨s, hs, es⟩ := pk_andE p3 (m := 15) 4 (by decide)
  obtain ⟨t, ht, et⟩ := pk_andE p4 (m := 15) 4 (by decide)
  have hl : u % 7 < 7 := by omega
  have hm : (u % 7 + 1 + w % 6) % 7 < 7 := by omega
  have hlm : u % 7 ≠ (u % 7 + 1 + w % 6) % 7 := by omega
  unfold wpL_lawOf
  rw [eu, ew, ex, ey, ep, eqq, es, et]
  refine ⟨by omega, by omega, 10, 2900, by omega, by omega, fw_init (by omega) (by omega) (fun s7 s8 s10 K0 => ⟨by decide, nm_r (fw_m7 (by omega)) ⟨by decide, by decide, nm_r (e' := nI ((u % 7 + 1 + w % 6) % 7)) ?_ (nm_e (nm_e (nm_e (nm_e ?_))))⟩⟩)⟩
  · rw [fw_m6 (by omega), nI_1, nI_add, fw_m7 (by omega)]
  · refine fw_put K0 hl hx hy (fun r1 s => ?_)
    refine fw_link hl hm hlm hp hq hx hy pk_us pk_us (fun g t7 t8 t9 z t10 K hz hC => br_t rfl (nm_e (nm_e ?_)))
    rw [nI_add, nI_add]
    refine pk_lt 15 (x + p) (fun z1 => ?_) (fun z1 => pk_lt 15 (y + q) (fun z2 => ?_) (fun z2 => ?_))
    · exact fw_135 (b := 0) hl hm hlm hx hy hp hq hs ht K hz hC pk_us pk_us pk_us pk_us pk_us pk_us (Or.inr ⟨rfl, by omega⟩) H
    · exact fw_135 (b := 0) hl hm hlm hx hy hp hq hs ht K hz hC pk_us pk_us pk_us pk_us pk_us pk_us (Or.inr ⟨rfl, by omega⟩) H
    · exact fw_135 (b := 1) hl hm hlm hx hy hp hq hs ht K hz hC pk_us pk_us pk_us pk_us pk_us pk_us (Or.inl ⟨rfl, z1, z2⟩) H
theorem i_vc (xs : Nat → Int32) (L : Nat) (hL : L ≤ 5) : wpL_law (fun r => r = 1) L xs :=
  fw_cell (k := 0) hL (by omega) fun r1 => fw_cell (k := 1) hL (by omega) fun r2 => fw_cell (k := 2) hL (by omega) fun r3 => fw_cell (k := 3) hL (by omega) fun r4 => fw_cell (k := 4) hL (by omega) fun r5 =>
    ⟨11, 2913, by omega, by omega, fw_lawOf r1 r2 r3 r4 r5 rfl⟩
end
