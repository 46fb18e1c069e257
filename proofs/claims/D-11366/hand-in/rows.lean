section
/-- the machine of a column (the places past the second machine are the first one's again) -/
def ft_m (c : Nat) : Nat := if (c - 1) / 5 < 2 then (c - 1) / 5 else 0
/-- what a job costs at a column: t the times, w the open machines as masks -/
def ft_K (t : Nat → Nat → Nat) (w : Nat → Nat) (j c : Nat) : Nat := if w j / 2 ^ ft_m c % 2 = 0 then 100000 else 8 * ((c - 1) % 5 + 1) * t j (ft_m c)
/-- the arrays times and open hold the picture t, w (of jobs 0 and 1) -/
def ft_ok (t : Nat → Nat → Nat) (w : Nat → Nat) (a1 a2 : Nat → Int32) : Prop := (∀ j m, j < 2 → m < 2 → a1 (j * 3 + m) = nI (t j m) ∧ t j m ≤ 15) ∧ (∀ j, j < 2 → a2 j = nI (w j) ∧ w j < 4)
/-- the doubled machine and the number of columns -/
def ft_dc (D : Int32) (C : Nat) : Prop := (D = -1 ∧ C = 10) ∨ (D = 0 ∧ C = 15)
theorem ft_dcC {D : Int32} {C : Nat} (h : ft_dc D C) : 1 ≤ C ∧ C ≤ 15 := by
  rcases h with h | h
  · omega
  · omega
theorem ft_m2 (c : Nat) : ft_m c < 2 := by
  unfold ft_m
  split
  · assumption
  · omega
theorem ft_bit : ∀ x, x < 4 → ∀ m, m < 2 → ((nI x >>> (nI m &&& 31)) &&& 1) = nI (x / 2 ^ m % 2) := by decide +kernel
theorem ft_nm1 : ∀ m, m < 2 → ¬ nI m = (-1 : Int32) := by decide +kernel
theorem ft_by : ∀ r, r < 24 → (nI r).toInt8.toInt32 = nI r := by decide +kernel
theorem ft_nar {r : Nat} (h : r < 24) : vp_nar .byte (nI r) = nI r := by
  rw [vp_nar_byte]
  exact ft_by r h
theorem ft_K_le {t : Nat → Nat → Nat} {w : Nat → Nat} {a1 a2 : Nat → Int32} {j : Nat} (h : ft_ok t w a1 a2) (hj : j < 2) (c : Nat) : ft_K t w j c ≤ 100000 := by
  unfold ft_K
  split
  · exact Nat.le_refl _
  · have h1 := (h.1 j (ft_m c) hj (ft_m2 c)).2
    have h2 : 8 * ((c - 1) % 5 + 1) ≤ 40 := by omega
    have h3 := Nat.mul_le_mul h2 h1
    omega
/-- the machine of a column -/
theorem ft_mach {post : Int32 → Prop} {f1 f3 f4 f5 f6 f7 : Int32} {a1 a2 a3 a4 a5 a6 a7 a8 a9 a10 : Nat → Int32} {D : Int32} {C c : Nat} (hD : ft_dc D C) (h1 : 1 ≤ c) (hc : c ≤ C) (h : post (nI (ft_m c))) : wpX_machineAt post (2, f1, D, f3, f4, f5, f6, f7, a1, a2, a3, a4, a5, a6, a7, a8, a9, a10) (nI c) := by
  have e : (nI c - 1) / 5 = nI ((c - 1) / 5) := by
    rw [show (1 : Int32) = nI 1 from rfl, pk_sub h1, show (5 : Int32) = nI 5 from rfl, pk_div (by have := ft_dcC hD; omega) (by omega) (by omega)]
  have hC := ft_dcC hD
  refine ⟨by decide, nm_r e (pk_le 2 ((c - 1) / 5) (fun z => ?_) (fun z => ?_))⟩
  · have e2 : ft_m c = 0 := by
      unfold ft_m
      rw [if_neg (by omega)]
    rw [e2] at h
    rcases hD with hd | hd
    · omega
    · rw [hd.1]
      exact h
  · have e2 : ft_m c = (c - 1) / 5 := by
      unfold ft_m
      rw [if_pos z]
    rw [e2] at h
    exact h
/-- the cost of a row at a column -/
theorem ft_cost {post : Int32 → Prop} {f1 f4 f5 f6 f7 : Int32} {a1 a2 a3 a4 a5 a6 a7 a8 a9 a10 : Nat → Int32} {t : Nat → Nat → Nat} {w : Nat → Nat} {D : Int32} {C c j r : Nat} (hk : ft_ok t w a1 a2) (hD : ft_dc D C) (hr : r < 6) (hj : a3 r = nI j) (hj2 : j < 2) (h1 : 1 ≤ c) (hc : c ≤ C) (h : post (nI (ft_K t w j c))) : wpX_costOf post (2, f1, D, (-1), f4, f5, f6, f7, a1, a2, a3, a4, a5, a6, a7, a8, a9, a10) (nI r) (nI c) := by
  have hm := ft_m2 c
  have hC := ft_dcC hD
  refine ⟨pk_in r 6 hr, nm_r (e' := nI j) (by rw [nI_clamp (by omega)]; exact hj) (ft_mach hD h1 hc ?_)⟩
  refine br_f (nI_pos (by omega)) ⟨pk_in j 5 (by omega), ?_⟩
  rw [nI_clamp (show j < 2 ^ 31 by omega), (hk.2 j hj2).1, ft_bit (w j) (hk.2 j hj2).2 (ft_m c) hm]
  have e5 : ((nI c - 1) - (nI c - 1) / 5 * 5) + 1 = nI ((c - 1) % 5 + 1) := by
    rw [show (1 : Int32) = nI 1 from rfl, pk_sub h1, show (5 : Int32) = nI 5 from rfl, pk_rem (by omega) (by omega) (by omega), nI_add]
  have e6 : nI j * 3 + nI (ft_m c) = nI (j * 3 + ft_m c) := by
    rw [show (3 : Int32) = nI 3 from rfl, pk_mul, nI_add]
  refine pk_eq (w j / 2 ^ ft_m c % 2) 0 (fun z => ?_) (fun z => ?_) rfl rfl (by omega)
  · unfold ft_K at h
    rw [if_pos z] at h
    exact h
  · unfold ft_K at h
    rw [if_neg z] at h
    rw [e6]
    refine ⟨by decide, nm_r e5 ⟨pk_in (j * 3 + ft_m c) 15 (by omega), nm_r (e' := nI (8 * ((c - 1) % 5 + 1) * t j (ft_m c))) ?_ (br_f (ft_nm1 _ hm) h)⟩⟩
    rw [nI_clamp (by omega), (hk.1 j (ft_m c) hj2 hm).1, show (8 : Int32) = nI 8 from rfl, pk_mul, pk_mul]
/-- an array with v c written at the places c < i that P picks -/
def ft_w (P : Nat → Bool) (v a : Nat → Int32) (i : Nat) : Nat → Int32 := fun c => if c < i ∧ P c = true then v c else a c
theorem ft_w_0 (P : Nat → Bool) (v a : Nat → Int32) : ft_w P v a 0 = a := by
  funext c
  exact if_neg (fun z => absurd z.1 (by omega))
theorem ft_w_1 {P : Nat → Bool} (v a : Nat → Int32) (h : P 0 = false) : ft_w P v a 1 = a := by
  funext c
  refine if_neg (fun z => ?_)
  have e : c = 0 := by omega
  have z2 := z.2
  rw [e, h] at z2
  exact absurd z2 (by decide)
theorem ft_w_t {P : Nat → Bool} {v a : Nat → Int32} {i : Nat} {x : Int32} (h : P i = true) (hx : x = v i) : upd (ft_w P v a i) i x = ft_w P v a (i + 1) := by
  funext c
  by_cases e : c = i
  · rw [e, pk_us, hx]
    exact (if_pos ⟨by omega, h⟩).symm
  · rw [pk_un e]
    unfold ft_w
    by_cases z : c < i ∧ P c = true
    · rw [if_pos z, if_pos ⟨by omega, z.2⟩]
    · rw [if_neg z, if_neg (fun y => z ⟨by omega, y.2⟩)]
theorem ft_w_f {P : Nat → Bool} (v a : Nat → Int32) {i : Nat} (h : P i = false) : ft_w P v a i = ft_w P v a (i + 1) := by
  funext c
  unfold ft_w
  by_cases z : c < i ∧ P c = true
  · rw [if_pos z, if_pos ⟨by omega, z.2⟩]
  · refine (if_neg z).trans (if_neg (fun y => z ⟨?_, y.2⟩)).symm
    rcases Nat.lt_or_ge c i with g | g
    · exact g
    · have e : c = i := by omega
      have y2 := y.2
      rw [e, h] at y2
      exact absurd y2 (by decide)
theorem ft_w_ge {P : Nat → Bool} {v a : Nat → Int32} {i c : Nat} (h : i ≤ c) : ft_w P v a i c = a c := if_neg (fun z => absurd z.1 (by omega))
theorem ft_w_in {P : Nat → Bool} {v a : Nat → Int32} {i c : Nat} (h : c < i) (hp : P c = true) : ft_w P v a i c = v c := if_pos ⟨h, hp⟩
theorem ft_w_no {P : Nat → Bool} {v a : Nat → Int32} {i c : Nat} (hp : P c = false) : ft_w P v a i c = a c := if_neg (fun z => by have z2 := z.2; rw [hp] at z2; exact absurd z2 (by decide))
end
section
/-- the slack of a column once a row has been looked at -/
def ft_V (R a8 : Nat → Int32) (c : Nat) : Int32 := if a8 c ≤ R c then a8 c else R c
/-- the columns whose slack goes down -/
def ft_P (R a8 a9 : Nat → Int32) (c : Nat) : Bool := decide (1 ≤ c) && decide (a9 c = 0) && !decide (a8 c ≤ R c)
/-- the scan has seen the columns 1 .. i - 1: x3 the least slack, x4 a column that has it -/
def ft_I (V a9 : Nat → Int32) (i : Nat) (x3 x4 : Int32) : Prop := (∀ c, 1 ≤ c → c < i → a9 c = 0 → x3 ≤ V c) ∧ ((x4 = 0 ∧ x3 = 268435456) ∨ ∃ n, 1 ≤ n ∧ n < i ∧ a9 n = 0 ∧ x4 = nI n ∧ x3 = V n)
theorem ft_P0 (R a8 a9 : Nat → Int32) : ft_P R a8 a9 0 = false := rfl
theorem ft_Pr {R a8 a9 : Nat → Int32} {c : Nat} (h : ¬ a9 c = 0) : ft_P R a8 a9 c = false := by
  unfold ft_P
  rw [decide_eq_false h, Bool.and_false, Bool.false_and]
theorem ft_Pn {R a8 a9 : Nat → Int32} {c : Nat} (h : a8 c ≤ R c) : ft_P R a8 a9 c = false := by
  unfold ft_P
  rw [decide_eq_true h, Bool.not_true, Bool.and_false]
theorem ft_Py {R a8 a9 : Nat → Int32} {c : Nat} (h1 : 1 ≤ c) (h9 : a9 c = 0) (h : ¬ a8 c ≤ R c) : ft_P R a8 a9 c = true := by
  unfold ft_P
  rw [decide_eq_true h1, decide_eq_true h9, decide_eq_false h]
  rfl
theorem ft_nle {x y : Int32} (h : ¬ x ≤ y) : y ≤ x := by
  rcases Int32.le_total x y with g | g
  · exact absurd g h
  · exact g
theorem ft_I0 (V a9 : Nat → Int32) : ft_I V a9 1 268435456 0 := ⟨fun c h1 h2 _ => absurd h2 (by omega), Or.inl ⟨rfl, rfl⟩⟩
theorem ft_Is {V a9 : Nat → Int32} {i : Nat} {x3 x4 : Int32} (h : ft_I V a9 i x3 x4) (hi : ¬ a9 i = 0 ∨ x3 ≤ V i) : ft_I V a9 (i + 1) x3 x4 := by
  refine ⟨fun c h1 h2 h9 => ?_, ?_⟩
  · by_cases e : c = i
    · rw [e] at h9 ⊢
      rcases hi with g | g
      · exact absurd h9 g
      · exact g
    · exact h.1 c h1 (by omega) h9
  · rcases h.2 with g | ⟨n, g1, g2, g3⟩
    · exact Or.inl g
    · exact Or.inr ⟨n, g1, by omega, g3⟩
theorem ft_In {V a9 : Nat → Int32} {i : Nat} {x3 x4 : Int32} (h : ft_I V a9 i x3 x4) (h1 : 1 ≤ i) (h9 : a9 i = 0) (hi : ¬ x3 ≤ V i) : ft_I V a9 (i + 1) (V i) (nI i) := by
  refine ⟨fun c h1 h2 h9 => ?_, Or.inr ⟨i, h1, by omega, h9, rfl, rfl⟩⟩
  by_cases e : c = i
  · rw [e]
    exact Int32.le_refl _
  · exact Int32.le_trans (ft_nle hi) (h.1 c h1 (by omega) h9)
/-- the row prices: every reached column's row goes up by x3 -/
def ft_u4 (x3 : Int32) (a6 a9 a4 : Nat → Int32) : Nat → Nat → Int32
  | 0 => a4
  | i + 1 => if a9 i = 0 then ft_u4 x3 a6 a9 a4 i else upd (ft_u4 x3 a6 a9 a4 i) (a6 i).toNatClampNeg (ft_u4 x3 a6 a9 a4 i (a6 i).toNatClampNeg + x3)
theorem ft_u4_t {x3 : Int32} {a6 a9 a4 : Nat → Int32} {i : Nat} (h : a9 i = 0) : ft_u4 x3 a6 a9 a4 i = ft_u4 x3 a6 a9 a4 (i + 1) := (if_pos h).symm
theorem ft_u4_f {x3 : Int32} {a6 a9 a4 : Nat → Int32} {i : Nat} (h : ¬ a9 i = 0) : upd (ft_u4 x3 a6 a9 a4 i) (a6 i).toNatClampNeg (ft_u4 x3 a6 a9 a4 i (a6 i).toNatClampNeg + x3) = ft_u4 x3 a6 a9 a4 (i + 1) := (if_neg h).symm
theorem ft_u4_0 {x3 : Int32} {a6 a9 a4 : Nat → Int32} (h0 : ¬ a9 0 = 0) (i : Nat) (h : ∀ c, 1 ≤ c → c < i + 1 → a9 c = 0) : ft_u4 x3 a6 a9 a4 (i + 1) = upd a4 (a6 0).toNatClampNeg (a4 (a6 0).toNatClampNeg + x3) := by
  induction i with
  | zero => exact if_neg h0
  | succ i ih =>
    rw [← ft_u4_t (h (i + 1) (by omega) (by omega))]
    exact ih (fun c h1 h2 => h c h1 (by omega))
end
section
/-- the cost of row r at every column, whatever the matching's arrays hold -/
theorem ft_89 {post : Int32 → St2 → Prop} {J : Int32 → Int32 → Int32 → (Nat → Int32) → (Nat → Int32) → (Nat → Int32) → (Nat → Int32) → (Nat → Int32) → (Nat → Int32) → (Nat → Int32) → (Nat → Int32) → (Nat → Int32) → (Nat → Int32) → Prop} {x1 x2 x3 x4 : Int32} {f0 f1 f2 f3 f4 f5 f6 f7 : Int32} {a1 a2 a3 a4 a5 a6 a7 a8 a9 a10 : Nat → Int32} {V : Nat → Int32} {i : Nat} (h1 : 1 ≤ i) (hi : i < 24) (hv : a8 i = V i) (h9 : a9 i = 0) (hI : ft_I V a9 i x3 x4)
    (H : ∀ y3 y4, ft_I V a9 (i + 1) y3 y4 → J y3 y4 (nI (i + 1)) a1 a2 a3 a4 a5 a6 a7 a8 a9 a10) : wX_advance_89 post J x1 x2 x3 x4 (nI i) f0 f1 f2 f3 f4 f5 f6 f7 a1 a2 a3 a4 a5 a6 a7 a8 a9 a10 := by
  unfold wX_advance_89
  rw [nI_clamp (by omega), hv]
  exact ⟨pk_in i 24 hi, br_c (fun z => nm_r (nI_1 i) (H _ _ (ft_Is hI (Or.inr z)))) (fun z => ⟨pk_in i 24 hi, nm_e (nm_r (nI_1 i) (H _ _ (ft_In hI h1 h9 z)))⟩)⟩
theorem ft_upd {post : Int32 → St2 → Prop} {x3 x4 : Int32} {f0 f1 f2 f3 f4 f6 f7 : Int32} {a1 a2 a3 a4 a5 a6 a7 a8 a9 a10 : Nat → Int32} {C : Nat} (hC : C ≤ 15) (h6 : ∀ c, c ≤ C → ¬ a9 c = 0 → vp_in (a6 c) 6)
    (H : post x4 (f0, f1, f2, f3, f4, nI C, f6, f7, a1, a2, a3, ft_u4 x3 a6 a9 a4 (C + 1), ft_w (fun c => !decide (a9 c = 0)) (fun c => a5 c - x3) a5 (C + 1), a6, a7, ft_w (fun c => decide (a9 c = 0)) (fun c => a8 c - x3) a8 (C + 1), a9, a10)) :
    ∃ n, wX_advance_121 post x3 x4 f0 f1 f2 f3 f4 (nI C) f6 f7 n 0 a1 a2 a3 a4 a5 a6 a7 a8 a9 a10 := by
  have q := pk_loop (σ := Unit) (fun n i _ => wX_advance_121 post x3 x4 f0 f1 f2 f3 f4 (nI C) f6 f7 n (nI i) a1 a2 a3 (ft_u4 x3 a6 a9 a4 i) (ft_w (fun c => !decide (a9 c = 0)) (fun c => a5 c - x3) a5 i) a6 a7 (ft_w (fun c => decide (a9 c = 0)) (fun c => a8 c - x3) a8 i) a9 a10) (fun _ _ => True) (C + 1) 0 () (by omega) trivial
    (fun n _ _ => pk_lt C (C + 1) (fun _ => H) (fun z => absurd z (by omega)))
    (fun n i _ hi _ hw => pk_lt C i (fun z => absurd z (by omega)) (fun _ => ⟨pk_in i 24 (by omega), ?_⟩))
  · rw [ft_w_0, ft_w_0] at q
    exact q
  · have hw := hw () trivial
    rw [nI_clamp (by omega)]
    refine br_c (fun z => ⟨pk_in i 24 (by omega), pk_in i 24 (by omega), nm_r (ft_w_t (decide_eq_true z) (by rw [ft_w_ge (Nat.le_refl i)])) (nm_r (nI_1 i) ?_)⟩) (fun z => ⟨pk_in i 24 (by omega), h6 i (by omega) z, h6 i (by omega) z, nm_r (ft_u4_f z) ⟨pk_in i 24 (by omega), pk_in i 24 (by omega), nm_r (ft_w_t (by rw [decide_eq_false z]; rfl) (by rw [ft_w_ge (Nat.le_refl i)])) (nm_r (nI_1 i) ?_)⟩⟩)
    · rw [ft_u4_t z, ft_w_f (i := i) (P := fun c => !decide (a9 c = 0)) _ _ (by rw [decide_eq_true z]; rfl)]
      exact hw
    · rw [ft_w_f (i := i) (P := fun c => decide (a9 c = 0)) _ _ (decide_eq_false z)]
      exact hw
theorem ft_scan {post : Int32 → St2 → Prop} {x1 : Int32} {f0 f1 f2 f3 f4 f6 f7 : Int32} {a1 a2 a3 a4 a5 a6 a7 a8 a9 a10 : Nat → Int32} {r C : Nat} {K : Nat → Nat} {R : Nat → Int32} (hC : C ≤ 15) (hr : r < 6) (hR : ∀ c, 1 ≤ c → c ≤ C → nI (K c) - a4 r - a5 c = R c)
    (hc : ∀ (a7 a8 : Nat → Int32) (c : Nat), 1 ≤ c → c ≤ C → ∀ ψ : Int32 → Prop, ψ (nI (K c)) → wpX_costOf ψ (f0, f1, f2, f3, f4, nI C, f6, f7, a1, a2, a3, a4, a5, a6, a7, a8, a9, a10) (nI r) (nI c))
    (H : ∀ x3 x4, ft_I (ft_V R a8) a9 (C + 1) x3 x4 → ∃ n, wX_advance_121 post x3 x4 f0 f1 f2 f3 f4 (nI C) f6 f7 n 0 a1 a2 a3 a4 a5 a6 (ft_w (ft_P R a8 a9) (fun _ => x1.toInt8.toInt32) a7 (C + 1)) (ft_w (ft_P R a8 a9) R a8 (C + 1)) a9 a10) :
    ∃ n, wX_advance_16 post x1 (nI r) f0 f1 f2 f3 f4 (nI C) f6 f7 n 268435456 0 1 a1 a2 a3 a4 a5 a6 a7 a8 a9 a10 := by
  have q := pk_loop (σ := Int32 × Int32) (fun n i s => wX_advance_16 post x1 (nI r) f0 f1 f2 f3 f4 (nI C) f6 f7 n s.1 s.2 (nI i) a1 a2 a3 a4 a5 a6 (ft_w (ft_P R a8 a9) (fun _ => x1.toInt8.toInt32) a7 i) (ft_w (ft_P R a8 a9) R a8 i) a9 a10) (fun i s => 1 ≤ i ∧ ft_I (ft_V R a8) a9 i s.1 s.2) (C + 1) 1 (268435456, 0) (by omega) ⟨by omega, ft_I0 _ _⟩
    (fun n s h => pk_lt C (C + 1) (fun _ => H _ _ h.2) (fun z => absurd z (by omega)))
    (fun n i s hi h hw => pk_lt C i (fun z => absurd z (by omega)) (fun _ => ⟨pk_in i 24 (by omega), ?_⟩))
  · rw [ft_w_1 _ _ (ft_P0 R a8 a9), ft_w_1 _ _ (ft_P0 R a8 a9)] at q
    exact q
  · obtain ⟨h1, hI⟩ := h
    have hw : ∀ y3 y4, ft_I (ft_V R a8) a9 (i + 1) y3 y4 → wX_advance_16 post x1 (nI r) f0 f1 f2 f3 f4 (nI C) f6 f7 n y3 y4 (nI (i + 1)) a1 a2 a3 a4 a5 a6 (ft_w (ft_P R a8 a9) (fun _ => x1.toInt8.toInt32) a7 (i + 1)) (ft_w (ft_P R a8 a9) R a8 (i + 1)) a9 a10 := fun y3 y4 hy => hw (y3, y4) ⟨by omega, hy⟩
    rw [nI_clamp (show i < 2 ^ 31 by omega)]
    refine br_c (fun z => hc _ _ i h1 (by omega) _ ⟨pk_in r 6 hr, pk_in i 24 (by omega), nm_r (e' := R i) (by rw [nI_clamp (show r < 2 ^ 31 by omega)]; exact hR i h1 (by omega)) ⟨pk_in i 24 (by omega), ?_⟩⟩) (fun z => nm_r (nI_1 i) ?_)
    · rw [ft_w_ge (Nat.le_refl i)]
      refine br_c (fun g => ?_) (fun g => ⟨pk_in i 24 (by omega), nm_r (ft_w_t (ft_Py h1 z g) rfl) ⟨pk_in i 24 (by omega), nm_r (ft_w_t (ft_Py h1 z g) rfl) ?_⟩⟩)
      · rw [ft_w_f _ _ (ft_Pn (a9 := a9) g), ft_w_f _ _ (ft_Pn (a9 := a9) g)]
        refine ft_89 h1 (by omega) ?_ z hI hw
        rw [ft_w_no (ft_Pn (a9 := a9) g)]
        exact (if_pos g).symm
      · refine ft_89 h1 (by omega) ?_ z hI hw
        rw [ft_w_in (by omega) (ft_Py h1 z g)]
        exact (if_neg g).symm
    · rw [ft_w_f _ _ (ft_Pr (R := R) (a8 := a8) z), ft_w_f _ _ (ft_Pr (R := R) (a8 := a8) z)]
      exact hw _ _ (ft_Is hI (Or.inl z))
theorem ft_adv {post : Int32 → St2 → Prop} {f0 f1 f2 f3 f4 f6 f7 : Int32} {a1 a2 a3 a4 a5 a6 a7 a8 a9 a10 : Nat → Int32} {p r C : Nat} {K : Nat → Nat} {R : Nat → Int32} (hC : C ≤ 15) (hp : p ≤ C) (hr : r < 6) (h6p : a6 p = nI r) (hR : ∀ c, 1 ≤ c → c ≤ C → nI (K c) - a4 r - a5 c = R c)
    (hc : ∀ (a7 a8 : Nat → Int32) (c : Nat), 1 ≤ c → c ≤ C → ∀ ψ : Int32 → Prop, ψ (nI (K c)) → wpX_costOf ψ (f0, f1, f2, f3, f4, nI C, f6, f7, a1, a2, a3, a4, a5, a6, a7, a8, a9, a10) (nI r) (nI c))
    (h6 : ∀ c, c ≤ C → ¬ a9 c = 0 → vp_in (a6 c) 6)
    (hV : ∃ c, 1 ≤ c ∧ c ≤ C ∧ a9 c = 0 ∧ ¬ 268435456 ≤ ft_V R a8 c)
    (H : ∀ (n : Nat) (b4 b5 b7 b8 : Nat → Int32), 1 ≤ n → n ≤ C → a9 n = 0 → (∀ c, 1 ≤ c → c ≤ C → a9 c = 0 → ft_V R a8 n ≤ ft_V R a8 c) → b4 = ft_u4 (ft_V R a8 n) a6 a9 a4 (C + 1) → (∀ c, a9 c = 0 → b5 c = a5 c) → (∀ c, ¬ (1 ≤ c ∧ c ≤ C ∧ a9 c = 0 ∧ ¬ a8 c ≤ R c) → b7 c = a7 c) → (∀ c, 1 ≤ c → c ≤ C → a9 c = 0 → ¬ a8 c ≤ R c → b7 c = nI p) → (∀ c, 1 ≤ c → c ≤ C → a9 c = 0 → b8 c = ft_V R a8 c - ft_V R a8 n) → post (nI n) (f0, f1, f2, f3, f4, nI C, f6, f7, a1, a2, a3, b4, b5, a6, b7, b8, a9, a10)) :
    wpX_advance post (f0, f1, f2, f3, f4, nI C, f6, f7, a1, a2, a3, a4, a5, a6, a7, a8, a9, a10) (nI p) := by
  refine ⟨pk_in p 24 (by omega), nm_r (e' := nI r) (by rw [nI_clamp (by omega)]; exact h6p) (ft_scan hC hr hR hc (fun x3 x4 hI => ft_upd hC h6 ?_))⟩
  obtain ⟨c0, g1, g2, g3, g4⟩ := hV
  rcases hI.2 with ⟨_, e⟩ | ⟨n, n1, n2, n3, n4, n5⟩
  · exact absurd (e ▸ hI.1 c0 g1 (by omega) g3) g4
  · rw [n4, n5]
    refine H n _ _ _ _ n1 (by omega) n3 (fun c q1 q2 q3 => ?_) rfl (fun c q => ?_) (fun c q => ?_) (fun c q1 q2 q3 q4 => ?_) (fun c q1 q2 q3 => ?_)
    · rw [← n5]
      exact hI.1 c q1 (by omega) q3
    · exact ft_w_no (by rw [decide_eq_true q]; rfl)
    · by_cases z : c < C + 1 ∧ ft_P R a8 a9 c = true
      · refine absurd ?_ q
        have z2 := z.2
        unfold ft_P at z2
        rw [Bool.and_eq_true, Bool.and_eq_true, decide_eq_true_eq, decide_eq_true_eq, Bool.not_eq_true', decide_eq_false_iff_not] at z2
        exact ⟨z2.1.1, by omega, z2.1.2, z2.2⟩
      · exact if_neg z
    · rw [ft_w_in (by omega) (ft_Py q1 q3 q4)]
      exact ft_by p (by omega)
    · rw [ft_w_in (by omega) (decide_eq_true q3)]
      refine congrArg (fun x => x - ft_V R a8 n) ?_
      unfold ft_V
      by_cases z : a8 c ≤ R c
      · rw [if_pos z]
        exact ft_w_no (ft_Pn z)
      · rw [if_neg z]
        exact ft_w_in (by omega) (ft_Py q1 q3 z)
/-- the cost of row r at every column, whatever the matching's arrays hold -/
theorem ft_89b {post : Int32 → St2 → Prop} {J : Int32 → Int32 → Int32 → (Nat → Int32) → (Nat → Int32) → (Nat → Int32) → (Nat → Int32) → (Nat → Int32) → (Nat → Int32) → (Nat → Int32) → (Nat → Int32) → (Nat → Int32) → (Nat → Int32) → Prop} {x1 x2 x3 x4 : Int32} {f0 f1 f2 f3 f4 f5 f6 f7 : Int32} {a1 a2 a3 a4 a5 a6 a7 a8 a9 a10 : Nat → Int32} {V : Nat → Int32} {i : Nat} (h1 : 1 ≤ i) (hi : i < 24) (hv : a8 i = V i) (h9 : a9 i = 0) (hI : ft_I V a9 i x3 x4)
    (H : ∀ y3 y4, ft_I V a9 (i + 1) y3 y4 → J y3 y4 (nI (i + 1)) a1 a2 a3 a4 a5 a6 a7 a8 a9 a10) : wX_advance_2_89 post J x1 x2 x3 x4 (nI i) f0 f1 f2 f3 f4 f5 f6 f7 a1 a2 a3 a4 a5 a6 a7 a8 a9 a10 := by
  unfold wX_advance_2_89
  rw [nI_clamp (by omega), hv]
  exact ⟨pk_in i 24 hi, br_c (fun z => nm_r (nI_1 i) (H _ _ (ft_Is hI (Or.inr z)))) (fun z => ⟨pk_in i 24 hi, nm_e (nm_r (nI_1 i) (H _ _ (ft_In hI h1 h9 z)))⟩)⟩
theorem ft_updb {post : Int32 → St2 → Prop} {x3 x4 : Int32} {f0 f1 f2 f3 f4 f6 f7 : Int32} {a1 a2 a3 a4 a5 a6 a7 a8 a9 a10 : Nat → Int32} {C : Nat} (hC : C ≤ 15) (h6 : ∀ c, c ≤ C → ¬ a9 c = 0 → vp_in (a6 c) 6)
    (H : post x4 (f0, f1, f2, f3, f4, nI C, f6, f7, a1, a2, a3, ft_u4 x3 a6 a9 a4 (C + 1), ft_w (fun c => !decide (a9 c = 0)) (fun c => a5 c - x3) a5 (C + 1), a6, a7, ft_w (fun c => decide (a9 c = 0)) (fun c => a8 c - x3) a8 (C + 1), a9, a10)) :
    ∃ n, wX_advance_2_121 post x3 x4 f0 f1 f2 f3 f4 (nI C) f6 f7 n 0 a1 a2 a3 a4 a5 a6 a7 a8 a9 a10 := by
  have q := pk_loop (σ := Unit) (fun n i _ => wX_advance_2_121 post x3 x4 f0 f1 f2 f3 f4 (nI C) f6 f7 n (nI i) a1 a2 a3 (ft_u4 x3 a6 a9 a4 i) (ft_w (fun c => !decide (a9 c = 0)) (fun c => a5 c - x3) a5 i) a6 a7 (ft_w (fun c => decide (a9 c = 0)) (fun c => a8 c - x3) a8 i) a9 a10) (fun _ _ => True) (C + 1) 0 () (by omega) trivial
    (fun n _ _ => pk_lt C (C + 1) (fun _ => H) (fun z => absurd z (by omega)))
    (fun n i _ hi _ hw => pk_lt C i (fun z => absurd z (by omega)) (fun _ => ⟨pk_in i 24 (by omega), ?_⟩))
  · rw [ft_w_0, ft_w_0] at q
    exact q
  · have hw := hw () trivial
    rw [nI_clamp (by omega)]
    refine br_c (fun z => ⟨pk_in i 24 (by omega), pk_in i 24 (by omega), nm_r (ft_w_t (decide_eq_true z) (by rw [ft_w_ge (Nat.le_refl i)])) (nm_r (nI_1 i) ?_)⟩) (fun z => ⟨pk_in i 24 (by omega), h6 i (by omega) z, h6 i (by omega) z, nm_r (ft_u4_f z) ⟨pk_in i 24 (by omega), pk_in i 24 (by omega), nm_r (ft_w_t (by rw [decide_eq_false z]; rfl) (by rw [ft_w_ge (Nat.le_refl i)])) (nm_r (nI_1 i) ?_)⟩⟩)
    · rw [ft_u4_t z, ft_w_f (i := i) (P := fun c => !decide (a9 c = 0)) _ _ (by rw [decide_eq_true z]; rfl)]
      exact hw
    · rw [ft_w_f (i := i) (P := fun c => decide (a9 c = 0)) _ _ (decide_eq_false z)]
      exact hw
theorem ft_scanb {post : Int32 → St2 → Prop} {x1 : Int32} {f0 f1 f2 f3 f4 f6 f7 : Int32} {a1 a2 a3 a4 a5 a6 a7 a8 a9 a10 : Nat → Int32} {r C : Nat} {K : Nat → Nat} {R : Nat → Int32} (hC : C ≤ 15) (hr : r < 6) (hR : ∀ c, 1 ≤ c → c ≤ C → nI (K c) - a4 r - a5 c = R c)
    (hc : ∀ (a7 a8 : Nat → Int32) (c : Nat), 1 ≤ c → c ≤ C → ∀ ψ : Int32 → Prop, ψ (nI (K c)) → wpX_costOf ψ (f0, f1, f2, f3, f4, nI C, f6, f7, a1, a2, a3, a4, a5, a6, a7, a8, a9, a10) (nI r) (nI c))
    (H : ∀ x3 x4, ft_I (ft_V R a8) a9 (C + 1) x3 x4 → ∃ n, wX_advance_2_121 post x3 x4 f0 f1 f2 f3 f4 (nI C) f6 f7 n 0 a1 a2 a3 a4 a5 a6 (ft_w (ft_P R a8 a9) (fun _ => x1.toInt8.toInt32) a7 (C + 1)) (ft_w (ft_P R a8 a9) R a8 (C + 1)) a9 a10) :
    ∃ n, wX_advance_2_16 post x1 (nI r) f0 f1 f2 f3 f4 (nI C) f6 f7 n 268435456 0 1 a1 a2 a3 a4 a5 a6 a7 a8 a9 a10 := by
  have q := pk_loop (σ := Int32 × Int32) (fun n i s => wX_advance_2_16 post x1 (nI r) f0 f1 f2 f3 f4 (nI C) f6 f7 n s.1 s.2 (nI i) a1 a2 a3 a4 a5 a6 (ft_w (ft_P R a8 a9) (fun _ => x1.toInt8.toInt32) a7 i) (ft_w (ft_P R a8 a9) R a8 i) a9 a10) (fun i s => 1 ≤ i ∧ ft_I (ft_V R a8) a9 i s.1 s.2) (C + 1) 1 (268435456, 0) (by omega) ⟨by omega, ft_I0 _ _⟩
    (fun n s h => pk_lt C (C + 1) (fun _ => H _ _ h.2) (fun z => absurd z (by omega)))
    (fun n i s hi h hw => pk_lt C i (fun z => absurd z (by omega)) (fun _ => ⟨pk_in i 24 (by omega), ?_⟩))
  · rw [ft_w_1 _ _ (ft_P0 R a8 a9), ft_w_1 _ _ (ft_P0 R a8 a9)] at q
    exact q
  · obtain ⟨h1, hI⟩ := h
    have hw : ∀ y3 y4, ft_I (ft_V R a8) a9 (i + 1) y3 y4 → wX_advance_2_16 post x1 (nI r) f0 f1 f2 f3 f4 (nI C) f6 f7 n y3 y4 (nI (i + 1)) a1 a2 a3 a4 a5 a6 (ft_w (ft_P R a8 a9) (fun _ => x1.toInt8.toInt32) a7 (i + 1)) (ft_w (ft_P R a8 a9) R a8 (i + 1)) a9 a10 := fun y3 y4 hy => hw (y3, y4) ⟨by omega, hy⟩
    rw [nI_clamp (show i < 2 ^ 31 by omega)]
    refine br_c (fun z => hc _ _ i h1 (by omega) _ ⟨pk_in r 6 hr, pk_in i 24 (by omega), nm_r (e' := R i) (by rw [nI_clamp (show r < 2 ^ 31 by omega)]; exact hR i h1 (by omega)) ⟨pk_in i 24 (by omega), ?_⟩⟩) (fun z => nm_r (nI_1 i) ?_)
    · rw [ft_w_ge (Nat.le_refl i)]
      refine br_c (fun g => ?_) (fun g => ⟨pk_in i 24 (by omega), nm_r (ft_w_t (ft_Py h1 z g) rfl) ⟨pk_in i 24 (by omega), nm_r (ft_w_t (ft_Py h1 z g) rfl) ?_⟩⟩)
      · rw [ft_w_f _ _ (ft_Pn (a9 := a9) g), ft_w_f _ _ (ft_Pn (a9 := a9) g)]
        refine ft_89b h1 (by omega) ?_ z hI hw
        rw [ft_w_no (ft_Pn (a9 := a9) g)]
        exact (if_pos g).symm
      · refine ft_89b h1 (by omega) ?_ z hI hw
        rw [ft_w_in (by omega) (ft_Py h1 z g)]
        exact (if_neg g).symm
    · rw [ft_w_f _ _ (ft_Pr (R := R) (a8 := a8) z), ft_w_f _ _ (ft_Pr (R := R) (a8 := a8) z)]
      exact hw _ _ (ft_Is hI (Or.inl z))
theorem ft_advb {post : Int32 → St2 → Prop} {f0 f1 f2 f3 f4 f6 f7 : Int32} {a1 a2 a3 a4 a5 a6 a7 a8 a9 a10 : Nat → Int32} {p r C : Nat} {K : Nat → Nat} {R : Nat → Int32} (hC : C ≤ 15) (hp : p ≤ C) (hr : r < 6) (h6p : a6 p = nI r) (hR : ∀ c, 1 ≤ c → c ≤ C → nI (K c) - a4 r - a5 c = R c)
    (hc : ∀ (a7 a8 : Nat → Int32) (c : Nat), 1 ≤ c → c ≤ C → ∀ ψ : Int32 → Prop, ψ (nI (K c)) → wpX_costOf ψ (f0, f1, f2, f3, f4, nI C, f6, f7, a1, a2, a3, a4, a5, a6, a7, a8, a9, a10) (nI r) (nI c))
    (h6 : ∀ c, c ≤ C → ¬ a9 c = 0 → vp_in (a6 c) 6)
    (hV : ∃ c, 1 ≤ c ∧ c ≤ C ∧ a9 c = 0 ∧ ¬ 268435456 ≤ ft_V R a8 c)
    (H : ∀ (n : Nat) (b4 b5 b7 b8 : Nat → Int32), 1 ≤ n → n ≤ C → a9 n = 0 → (∀ c, 1 ≤ c → c ≤ C → a9 c = 0 → ft_V R a8 n ≤ ft_V R a8 c) → b4 = ft_u4 (ft_V R a8 n) a6 a9 a4 (C + 1) → (∀ c, a9 c = 0 → b5 c = a5 c) → (∀ c, ¬ (1 ≤ c ∧ c ≤ C ∧ a9 c = 0 ∧ ¬ a8 c ≤ R c) → b7 c = a7 c) → (∀ c, 1 ≤ c → c ≤ C → a9 c = 0 → ¬ a8 c ≤ R c → b7 c = nI p) → (∀ c, 1 ≤ c → c ≤ C → a9 c = 0 → b8 c = ft_V R a8 c - ft_V R a8 n) → post (nI n) (f0, f1, f2, f3, f4, nI C, f6, f7, a1, a2, a3, b4, b5, a6, b7, b8, a9, a10)) :
    wpX_advance_2 post (f0, f1, f2, f3, f4, nI C, f6, f7, a1, a2, a3, a4, a5, a6, a7, a8, a9, a10) (nI p) := by
  refine ⟨pk_in p 24 (by omega), nm_r (e' := nI r) (by rw [nI_clamp (by omega)]; exact h6p) (ft_scanb hC hr hR hc (fun x3 x4 hI => ft_updb hC h6 ?_))⟩
  obtain ⟨c0, g1, g2, g3, g4⟩ := hV
  rcases hI.2 with ⟨_, e⟩ | ⟨n, n1, n2, n3, n4, n5⟩
  · exact absurd (e ▸ hI.1 c0 g1 (by omega) g3) g4
  · rw [n4, n5]
    refine H n _ _ _ _ n1 (by omega) n3 (fun c q1 q2 q3 => ?_) rfl (fun c q => ?_) (fun c q => ?_) (fun c q1 q2 q3 q4 => ?_) (fun c q1 q2 q3 => ?_)
    · rw [← n5]
      exact hI.1 c q1 (by omega) q3
    · exact ft_w_no (by rw [decide_eq_true q]; rfl)
    · by_cases z : c < C + 1 ∧ ft_P R a8 a9 c = true
      · refine absurd ?_ q
        have z2 := z.2
        unfold ft_P at z2
        rw [Bool.and_eq_true, Bool.and_eq_true, decide_eq_true_eq, decide_eq_true_eq, Bool.not_eq_true', decide_eq_false_iff_not] at z2
        exact ⟨z2.1.1, by omega, z2.1.2, z2.2⟩
      · exact if_neg z
    · rw [ft_w_in (by omega) (ft_Py q1 q3 q4)]
      exact ft_by p (by omega)
    · rw [ft_w_in (by omega) (decide_eq_true q3)]
      refine congrArg (fun x => x - ft_V R a8 n) ?_
      unfold ft_V
      by_cases z : a8 c ≤ R c
      · rw [if_pos z]
        exact ft_w_no (ft_Pn z)
      · rw [if_neg z]
        exact ft_w_in (by omega) (ft_Py q1 q3 z)
end
section
/-- the cost of row r at every column is K, whatever the matching's arrays hold -/
def ft_CO (f0 f1 f2 f3 f4 f6 f7 : Int32) (a1 a2 a3 a10 : Nat → Int32) (C r : Nat) (K : Nat → Nat) : Prop := ∀ (a4 a5 a6 a7 a8 a9 : Nat → Int32) (c : Nat), 1 ≤ c → c ≤ C → ∀ ψ : Int32 → Prop, ψ (nI (K c)) → wpX_costOf ψ (f0, f1, f2, f3, f4, nI C, f6, f7, a1, a2, a3, a4, a5, a6, a7, a8, a9, a10) (nI r) (nI c)
theorem ft_V1 {K : Nat → Nat} {a8 : Nat → Int32} {c : Nat} (h8 : a8 c = 268435456) (hK : K c ≤ 100000) : ft_V (fun c => nI (K c)) a8 c = nI (K c) := by
  unfold ft_V
  rw [h8]
  exact if_neg (nI_ge (b := 268435456) (by omega) (by decide))
theorem ft_V2 {R a8 : Nat → Int32} {c x y : Nat} (h8 : a8 c = nI x) (hR : R c = nI y) (hx : x ≤ 100000) (hy : y ≤ 100000) : ft_V R a8 c = nI (min x y) := by
  unfold ft_V
  rw [h8, hR]
  by_cases h : x ≤ y
  · rw [if_pos (nI_le h (by omega)), Nat.min_eq_left h]
  · rw [if_neg (nI_ge (by omega) (by omega)), Nat.min_eq_right (by omega)]
theorem ft_opt1 {K1 K2 : Nat → Nat} {C n m : Nat} (hA : ∀ c, 1 ≤ c → c ≤ C → K1 n ≤ K1 c) (hB : ∀ c, 1 ≤ c → c ≤ C → K2 n ≤ K2 c) (hm : m ≠ n) (hV : ∀ c, 1 ≤ c → c ≤ C → c ≠ n → min (K2 m - K2 n) (K1 m - K1 n) ≤ min (K2 c - K2 n) (K1 c - K1 n)) (hi : K2 m - K2 n ≤ K1 m - K1 n) :
    ∀ c d, 1 ≤ c → c ≤ C → 1 ≤ d → d ≤ C → c ≠ d → K1 n + K2 m ≤ K1 c + K2 d := by
  intro c d c1 c2 d1 d2 hcd
  have e1 := hA c c1 c2
  have e2 := hB d d1 d2
  by_cases h : c = n
  · have e3 := hV d d1 d2 (fun z => hcd (h.trans z.symm))
    rw [h]
    omega
  · have e3 := hV c c1 c2 h
    omega
theorem ft_opt2 {K1 K2 : Nat → Nat} {C n m : Nat} (hA : ∀ c, 1 ≤ c → c ≤ C → K1 n ≤ K1 c) (hB : ∀ c, 1 ≤ c → c ≤ C → K2 n ≤ K2 c) (hm : m ≠ n) (hV : ∀ c, 1 ≤ c → c ≤ C → c ≠ n → min (K2 m - K2 n) (K1 m - K1 n) ≤ min (K2 c - K2 n) (K1 c - K1 n)) (hi : K1 m - K1 n < K2 m - K2 n) :
    ∀ c d, 1 ≤ c → c ≤ C → 1 ≤ d → d ≤ C → c ≠ d → K1 m + K2 n ≤ K1 c + K2 d := by
  intro c d c1 c2 d1 d2 hcd
  have e1 := hA c c1 c2
  have e2 := hB d d1 d2
  by_cases h : c = n
  · have e3 := hV d d1 d2 (fun z => hcd (h.trans z.symm))
    rw [h]
    omega
  · have e3 := hV c c1 c2 h
    omega
theorem ft_in0 (n : Nat) (h : 0 < n) (h2 : n < 2 ^ 31) : vp_in 0 n := vp_in_nI (n := 0) h h2
end
section
theorem ft_bk1 {post : St2 → Prop} {f0 f1 f2 f3 f4 f5 f6 f7 : Int32} {a1 a2 a3 a4 a5 a6 a7 a8 a9 a10 : Nat → Int32} {n r : Nat} (hn : 1 ≤ n) (hn2 : n < 24) (h7 : a7 n = 0) (h6 : a6 0 = nI r) (hr : r < 24) (H : post (f0, f1, f2, f3, f4, f5, f6, f7, a1, a2, a3, a4, a5, upd a6 n (nI r), a7, a8, a9, a10)) : ∃ k, wX_insert_89 post f0 f1 f2 f3 f4 f5 f6 f7 k (nI n) 0 a1 a2 a3 a4 a5 a6 a7 a8 a9 a10 :=
  ⟨2, br_f (by decide) (br_f (nI_ne0 hn (by omega)) ⟨pk_in n 24 hn2, nm_r (e' := (0 : Int32)) (by rw [nI_clamp (by omega)]; exact h7) ⟨ft_in0 24 (by omega) (by omega), pk_in n 24 hn2, nm_r (e' := upd a6 n (nI r)) (by rw [nI_clamp (by omega), sb_cl0, h6, ft_nar hr]) (nm_e (br_f (by decide) (br_t rfl H)))⟩⟩)⟩
theorem ft_bk2 {post : St2 → Prop} {f0 f1 f2 f3 f4 f5 f6 f7 : Int32} {a1 a2 a3 a4 a5 a6 a7 a8 a9 a10 : Nat → Int32} {n q r s : Nat} (hn : 1 ≤ n) (hn2 : n < 24) (hq : 1 ≤ q) (hq2 : q < 24) (h7 : a7 n = nI q) (h7q : a7 q = 0) (h6 : a6 0 = nI r) (hr : r < 24) (h6q : a6 q = nI s) (hs : s < 24) (H : post (f0, f1, f2, f3, f4, f5, f6, f7, a1, a2, a3, a4, a5, upd (upd a6 n (nI s)) q (nI r), a7, a8, a9, a10)) : ∃ k, wX_insert_89 post f0 f1 f2 f3 f4 f5 f6 f7 k (nI n) 0 a1 a2 a3 a4 a5 a6 a7 a8 a9 a10 :=
  ⟨3, br_f (by decide) (br_f (nI_ne0 hn (by omega)) ⟨pk_in n 24 hn2, nm_r (e' := nI q) (by rw [nI_clamp (by omega)]; exact h7) ⟨pk_in q 24 hq2, pk_in n 24 hn2, nm_r (e' := upd a6 n (nI s)) (by rw [nI_clamp (by omega), nI_clamp (by omega), h6q, ft_nar hs])
    (nm_e (br_f (by decide) (br_f (nI_ne0 hq (by omega)) ⟨pk_in q 24 hq2, nm_r (e' := (0 : Int32)) (by rw [nI_clamp (by omega)]; exact h7q) ⟨ft_in0 24 (by omega) (by omega), pk_in q 24 hq2, nm_r (e' := upd (upd a6 n (nI s)) q (nI r)) (by rw [nI_clamp (by omega), sb_cl0, pk_un (show 0 ≠ n by omega), h6, ft_nar hr]) (nm_e (br_f (by decide) (br_t rfl H)))⟩⟩)))⟩⟩)⟩
theorem ft_ini {post : St2 → Prop} {f0 f1 f2 f3 f4 f6 f7 : Int32} {a1 a2 a3 a4 a5 a6 a7 a8 a9 a10 : Nat → Int32} {C : Nat} (hC : C ≤ 15) (H : wX_insert_50 post 3 0 0 f0 f1 f2 f3 f4 (nI C) f6 f7 a1 a2 a3 a4 a5 a6 (ft_w (fun _ => true) (fun _ => 0) a7 (C + 1)) (ft_w (fun _ => true) (fun _ => 268435456) a8 (C + 1)) (ft_w (fun _ => true) (fun _ => 0) a9 (C + 1)) a10) : ∃ n, wX_insert_10 post f0 f1 f2 f3 f4 (nI C) f6 f7 n 0 a1 a2 a3 a4 a5 a6 a7 a8 a9 a10 := by
  have q := pk_loop (σ := Unit) (fun n i _ => wX_insert_10 post f0 f1 f2 f3 f4 (nI C) f6 f7 n (nI i) a1 a2 a3 a4 a5 a6 (ft_w (fun _ => true) (fun _ => 0) a7 i) (ft_w (fun _ => true) (fun _ => 268435456) a8 i) (ft_w (fun _ => true) (fun _ => 0) a9 i) a10) (fun _ _ => True) (C + 1) 0 () (by omega) trivial
    (fun n _ _ => pk_lt C (C + 1) (fun _ => ⟨3, H⟩) (fun z => absurd z (by omega)))
    (fun n i _ hi _ hw => pk_lt C i (fun z => absurd z (by omega)) (fun _ => ⟨pk_in i 24 (by omega), nm_r (by rw [nI_clamp (by omega)]; exact ft_w_t rfl rfl) ⟨pk_in i 24 (by omega), nm_r (by rw [nI_clamp (by omega)]; exact ft_w_t rfl rfl) ⟨pk_in i 24 (by omega), nm_r (by rw [nI_clamp (by omega)]; exact ft_w_t rfl rfl) (nm_r (nI_1 i) (hw () trivial))⟩⟩⟩))
  rw [ft_w_0, ft_w_0, ft_w_0] at q
  exact q
theorem ft_first {post : St2 → Prop} {f0 f1 f2 f3 f4 f6 f7 : Int32} {a1 a2 a3 a4 a5 a6 a7 a8 a9 a10 : Nat → Int32} {r C : Nat} {K : Nat → Nat} (hC1 : 1 ≤ C) (hC : C ≤ 15) (hr : r < 6) (hK : ∀ c, K c ≤ 100000) (h4 : a4 r = 0) (h5 : ∀ c, 1 ≤ c → c ≤ C → a5 c = 0) (hc : ft_CO f0 f1 f2 f3 f4 f6 f7 a1 a2 a3 a10 C r K)
    (H : ∀ (n : Nat) (b5 b7 b8 b9 : Nat → Int32), 1 ≤ n → n ≤ C → (∀ c, 1 ≤ c → c ≤ C → K n ≤ K c) → (∀ c, 1 ≤ c → c ≤ C → b5 c = 0) → (∀ c, c ≤ C → b7 c = 0) → (∀ c, 1 ≤ c → c ≤ C → b8 c = nI (K c - K n)) → b9 0 = 1 → (∀ c, 1 ≤ c → c ≤ C → b9 c = 0) → wX_insert_50 post 2 (nI n) 1 f0 f1 f2 f3 f4 (nI C) f6 f7 a1 a2 a3 (upd a4 r (nI (K n))) b5 (upd a6 0 (nI r)) b7 b8 b9 a10) :
    wpX_insert post (f0, f1, f2, f3, f4, nI C, f6, f7, a1, a2, a3, a4, a5, a6, a7, a8, a9, a10) (nI r) := by
  refine nm_r (e' := upd a6 0 (nI r)) (by rw [ft_by r (by omega)]) (ft_ini hC ?_)
  have w7 : ∀ c, c ≤ C → ft_w (fun _ => true) (fun _ => 0) a7 (C + 1) c = 0 := fun c h => ft_w_in (by omega) rfl
  have w8 : ∀ c, c ≤ C → ft_w (fun _ => true) (fun _ => 268435456) a8 (C + 1) c = 268435456 := fun c h => ft_w_in (by omega) rfl
  have w9 : ∀ c, c ≤ C → ft_w (fun _ => true) (fun _ => 0) a9 (C + 1) c = 0 := fun c h => ft_w_in (by omega) rfl
  have w9' : ∀ c, 1 ≤ c → c ≤ C → upd (ft_w (fun _ => true) (fun _ => 0) a9 (C + 1)) 0 1 c = 0 := fun c h1 h2 => by rw [pk_un (by omega)]; exact w9 c h2
  have w90 : upd (ft_w (fun _ => true) (fun _ => 0) a9 (C + 1)) 0 1 0 = 1 := pk_us
  have w6 : upd a6 0 (nI r) 0 = nI r := pk_us
  generalize ft_w (fun _ => true) (fun _ => 0) a7 (C + 1) = c7 at *
  generalize ft_w (fun _ => true) (fun _ => 268435456) a8 (C + 1) = c8 at *
  generalize hc9 : upd (ft_w (fun _ => true) (fun _ => 0) a9 (C + 1)) 0 1 = c9 at *
  have vv : ∀ c, 1 ≤ c → c ≤ C → ft_V (fun c => nI (K c)) c8 c = nI (K c) := fun c h1 h2 => ft_V1 (w8 c h2) (hK c)
  refine br_f (by decide) (br_t rfl ⟨ft_in0 24 (by omega) (by omega), nm_r (e' := c9) (by rw [sb_cl0]; exact hc9) (ft_adv (p := 0) (r := r) (C := C) (K := K) (R := fun c => nI (K c)) hC (by omega) hr w6 (fun c h1 h2 => ?_) (fun a7 a8 c h1 h2 => hc _ _ _ _ _ _ c h1 h2) (fun c h1 h2 => ?_) ⟨1, by omega, hC1, w9' 1 (by omega) hC1, ?_⟩ (fun n b4 b5 b7 b8 n1 n2 n3 n4 e4 e5 e7 e7' e8 => nm_r (e' := (1 : Int32)) (by decide) ?_))⟩)
  · rw [h4, h5 c h1 h2]
    simp
  · by_cases e : c = 0
    · rw [e, w6]
      exact pk_in r 6 hr
    · exact absurd (w9' c (by omega) h1) h2
  · rw [vv 1 (by omega) hC1]
    exact nI_ge (b := 268435456) (by have := hK 1; omega) (by decide)
  · rw [vv n n1 n2] at e4
    have e4' : b4 = upd a4 r (nI (K n)) := by
      rw [e4, ft_u4_0 (by rw [w90]; decide) C (fun c h1 h2 => w9' c h1 (by omega)), w6, nI_clamp (by omega), h4]
      simp
    rw [e4']
    refine H n b5 b7 b8 c9 n1 n2 (fun c h1 h2 => ?_) (fun c h1 h2 => ?_) (fun c h2 => ?_) (fun c h1 h2 => ?_) w90 w9'
    · have g := n4 c h1 h2 (w9' c h1 h2)
      rw [vv n n1 n2, vv c h1 h2] at g
      exact (nI_leI (by have := hK n; omega) (by have := hK c; omega)).mp g
    · rw [e5 c (w9' c h1 h2)]
      exact h5 c h1 h2
    · by_cases z : 1 ≤ c ∧ c ≤ C ∧ c9 c = 0 ∧ ¬ c8 c ≤ nI (K c)
      · exact e7' c z.1 z.2.1 z.2.2.1 z.2.2.2
      · rw [e7 c z]
        exact w7 c h2
    · have g := n4 c h1 h2 (w9' c h1 h2)
      rw [vv n n1 n2, vv c h1 h2] at g
      have g' := (nI_leI (by have := hK n; omega) (by have := hK c; omega)).mp g
      rw [e8 c h1 h2 (w9' c h1 h2), vv n n1 n2, vv c h1 h2, pk_sub g']
/-- a row comes into an empty matching -/
theorem ft_ins1 {post : St2 → Prop} {f0 f1 f2 f3 f4 f6 f7 : Int32} {a1 a2 a3 a4 a5 a6 a7 a8 a9 a10 : Nat → Int32} {r C : Nat} {K : Nat → Nat} (hC1 : 1 ≤ C) (hC : C ≤ 15) (hr : r < 6) (hK : ∀ c, K c ≤ 100000) (h4 : a4 r = 0) (h5 : ∀ c, 1 ≤ c → c ≤ C → a5 c = 0) (h6 : ∀ c, 1 ≤ c → c ≤ C → a6 c = 0) (hc : ft_CO f0 f1 f2 f3 f4 f6 f7 a1 a2 a3 a10 C r K)
    (H : ∀ (n : Nat) (b5 b6 b7 b8 b9 : Nat → Int32), 1 ≤ n → n ≤ C → (∀ c, 1 ≤ c → c ≤ C → K n ≤ K c) → (∀ c, 1 ≤ c → c ≤ C → b5 c = 0) → b6 n = nI r → (∀ c, 1 ≤ c → c ≤ C → c ≠ n → b6 c = 0) → post (f0, f1, f2, f3, f4, nI C, f6, f7, a1, a2, a3, upd a4 r (nI (K n)), b5, b6, b7, b8, b9, a10)) :
    wpX_insert post (f0, f1, f2, f3, f4, nI C, f6, f7, a1, a2, a3, a4, a5, a6, a7, a8, a9, a10) (nI r) := by
  refine ft_first hC1 hC hr hK h4 h5 hc (fun n b5 b7 b8 b9 n1 n2 hm q5 q7 q8 q90 q9 => br_f (by decide) (br_f (by decide) ⟨pk_in n 24 (by omega), br_t ?_ (ft_bk1 n1 (by omega) (q7 n n2) pk_us (by omega) (H n b5 _ b7 b8 b9 n1 n2 hm q5 pk_us (fun c h1 h2 h3 => ?_)))⟩))
  · rw [nI_clamp (by omega), pk_un (by omega)]
    exact h6 n n1 n2
  · rw [pk_un h3, pk_un (by omega)]
    exact h6 c h1 h2
/-- the second row comes in beside the first -/
theorem ft_ins2 {post : St2 → Prop} {f0 f1 f2 f3 f4 f6 f7 : Int32} {a1 a2 a3 a4 a5 a6 a7 a8 a9 a10 : Nat → Int32} {C n1 : Nat} {K1 K2 : Nat → Nat} (hC1 : 2 ≤ C) (hC : C ≤ 15) (hK1 : ∀ c, K1 c ≤ 100000) (hK2 : ∀ c, K2 c ≤ 100000) (n11 : 1 ≤ n1) (n12 : n1 ≤ C) (hm : ∀ c, 1 ≤ c → c ≤ C → K1 n1 ≤ K1 c) (h41 : a4 1 = nI (K1 n1)) (h42 : a4 2 = 0) (h5 : ∀ c, 1 ≤ c → c ≤ C → a5 c = 0) (h6n : a6 n1 = nI 1) (h6 : ∀ c, 1 ≤ c → c ≤ C → c ≠ n1 → a6 c = 0) (hc1 : ft_CO f0 f1 f2 f3 f4 f6 f7 a1 a2 a3 a10 C 1 K1) (hc2 : ft_CO f0 f1 f2 f3 f4 f6 f7 a1 a2 a3 a10 C 2 K2)
    (H : ∀ (p q : Nat) (b4 b5 b6 b7 b8 b9 : Nat → Int32), 1 ≤ p → p ≤ C → 1 ≤ q → q ≤ C → p ≠ q → (∀ c d, 1 ≤ c → c ≤ C → 1 ≤ d → d ≤ C → c ≠ d → K1 p + K2 q ≤ K1 c + K2 d) → b6 p = nI 1 → b6 q = nI 2 → (∀ c, 1 ≤ c → c ≤ C → c ≠ p → c ≠ q → b6 c = 0) → post (f0, f1, f2, f3, f4, nI C, f6, f7, a1, a2, a3, b4, b5, b6, b7, b8, b9, a10)) :
    wpX_insert post (f0, f1, f2, f3, f4, nI C, f6, f7, a1, a2, a3, a4, a5, a6, a7, a8, a9, a10) (nI 2) := by
  refine ft_first (r := 2) (K := K2) (by omega) hC (by omega) hK2 h42 h5 hc2 (fun n b5 b7 b8 b9 g1 g2 gm q5 q7 q8 q90 q9 => ?_)
  by_cases e : n = n1
  · subst e
    have r0 : ∀ c, 1 ≤ c → c ≤ C → c ≠ n → upd b9 n 1 c = 0 := fun c h1 h2 h3 => by rw [pk_un h3]; exact q9 c h1 h2
    have r1 : ∀ c, upd b9 n 1 c = 0 → c ≠ n := fun c h1 h2 => by
      rw [h2, pk_us] at h1
      exact absurd h1 (by decide)
    have r2 : upd b9 n 1 n = 1 := pk_us
    generalize hc9 : upd b9 n 1 = c9 at *
    have vv : ∀ c, 1 ≤ c → c ≤ C → ft_V (fun c => nI (K1 c - K1 n)) b8 c = nI (min (K2 c - K2 n) (K1 c - K1 n)) := fun c h1 h2 => ft_V2 (q8 c h1 h2) rfl (by have := hK2 c; omega) (by have := hK1 c; omega)
    have ev : ∃ c, 1 ≤ c ∧ c ≤ C ∧ c9 c = 0 ∧ ¬ 268435456 ≤ ft_V (fun c => nI (K1 c - K1 n)) b8 c := by
      have z : ∀ c, 1 ≤ c → c ≤ C → ¬ 268435456 ≤ ft_V (fun c => nI (K1 c - K1 n)) b8 c := fun c h1 h2 => by
        rw [vv c h1 h2]
        exact nI_ge (b := 268435456) (by have := hK1 c; omega) (by decide)
      by_cases e1 : n = 1
      · exact ⟨2, by omega, hC1, r0 2 (by omega) hC1 (by omega), z 2 (by omega) hC1⟩
      · exact ⟨1, by omega, by omega, r0 1 (by omega) (by omega) (by omega), z 1 (by omega) (by omega)⟩
    refine br_f (by decide) (br_f (by decide) ⟨pk_in n 24 (by omega), br_f (by rw [nI_clamp (by omega), pk_un (by omega), h6n]; decide) ⟨pk_in n 24 (by omega), nm_r (e' := c9) (by rw [nI_clamp (by omega)]; exact hc9) (ft_adv (p := n) (r := 1) (C := C) (K := K1) (R := fun c => nI (K1 c - K1 n)) hC g2 (by omega) (by rw [pk_un (by omega)]; exact h6n) (fun c h1 h2 => ?_) (fun a7 a8 c h1 h2 => hc1 _ _ _ _ _ _ c h1 h2) (fun c h1 h2 => ?_) ev (fun m b4' b5' b7' b8' m1 m2 m3 m4 e4 e5 e7 e7' e8 => nm_r (e' := (2 : Int32)) (by decide) ?_))⟩⟩)
    · rw [pk_un (by decide), h41, q5 c h1 h2, pk_sub (hm c h1 h2)]
      simp
    · by_cases z : c = 0
      · rw [z, pk_us]
        exact pk_in 2 6 (by omega)
      · by_cases z2 : c = n
        · rw [z2, pk_un (by omega), h6n]
          exact pk_in 1 6 (by omega)
        · exact absurd (r0 c (by omega) h1 z2) h2
    · have mn := r1 m m3
      have mV : ∀ c, 1 ≤ c → c ≤ C → c ≠ n → min (K2 m - K2 n) (K1 m - K1 n) ≤ min (K2 c - K2 n) (K1 c - K1 n) := fun c h1 h2 h3 => by
        have y := m4 c h1 h2 (r0 c h1 h2 h3)
        rw [vv m m1 m2, vv c h1 h2] at y
        exact (nI_leI (by have := hK1 m; omega) (by have := hK1 c; omega)).mp y
      have m6 : upd a6 0 (nI 2) m = 0 := by
        rw [pk_un (by omega)]
        exact h6 m m1 m2 mn
      refine br_f (by decide) (br_f (by decide) ⟨pk_in m 24 (by omega), br_t (by rw [nI_clamp (by omega)]; exact m6) ?_⟩)
      by_cases z : K2 m - K2 n ≤ K1 m - K1 n
      · have z' : b8 m ≤ nI (K1 m - K1 n) := by
          rw [q8 m m1 m2]
          exact nI_le z (by have := hK1 m; omega)
        refine ft_bk1 m1 (by omega) ((e7 m (fun y => y.2.2.2 z')).trans (q7 m m2)) pk_us (by omega) (H n m _ _ _ _ _ _ g1 g2 m1 m2 (fun y => mn y.symm) (ft_opt1 hm gm mn mV z) ?_ pk_us (fun c h1 h2 h3 h4 => ?_))
        · rw [pk_un (fun y => mn y.symm), pk_un (by omega)]
          exact h6n
        · rw [pk_un h4, pk_un (by omega)]
          exact h6 c h1 h2 h3
      · have z' : ¬ b8 m ≤ nI (K1 m - K1 n) := by
          rw [q8 m m1 m2]
          exact nI_ge (by omega) (by have := hK2 m; omega)
        refine ft_bk2 m1 (by omega) g1 (by omega) (e7' m m1 m2 m3 z') ((e7 n (fun y => r1 n y.2.2.1 rfl)).trans (q7 n g2)) pk_us (by omega) ((pk_un (by omega)).trans h6n) (by omega) (H m n _ _ _ _ _ _ m1 m2 g1 g2 mn (ft_opt2 hm gm mn mV (by omega)) ?_ pk_us (fun c h1 h2 h3 h4 => ?_))
        · rw [pk_un mn]
          exact pk_us
        · rw [pk_un h4, pk_un h3, pk_un (by omega)]
          exact h6 c h1 h2 h4
  · refine br_f (by decide) (br_f (by decide) ⟨pk_in n 24 (by omega), br_t ?_ (ft_bk1 g1 (by omega) (q7 n g2) pk_us (by omega) (H n1 n _ _ _ _ _ _ n11 n12 g1 g2 (fun y => e y.symm) (fun c d c1 c2 d1 d2 _ => Nat.add_le_add (hm c c1 c2) (gm d d1 d2)) ?_ pk_us (fun c h1 h2 h3 h4 => ?_)))⟩)
    · rw [nI_clamp (by omega), pk_un (by omega)]
      exact h6 n g1 g2 e
    · rw [pk_un (fun y => e y.symm), pk_un (by omega)]
      exact h6n
    · rw [pk_un h4, pk_un (by omega)]
      exact h6 c h1 h2 h3
theorem ft_bk1b {post : St2 → Prop} {f0 f1 f2 f3 f4 f5 f6 f7 : Int32} {a1 a2 a3 a4 a5 a6 a7 a8 a9 a10 : Nat → Int32} {n r : Nat} (hn : 1 ≤ n) (hn2 : n < 24) (h7 : a7 n = 0) (h6 : a6 0 = nI r) (hr : r < 24) (H : post (f0, f1, f2, f3, f4, f5, f6, f7, a1, a2, a3, a4, a5, upd a6 n (nI r), a7, a8, a9, a10)) : ∃ k, wX_insert_2_89 post f0 f1 f2 f3 f4 f5 f6 f7 k (nI n) 0 a1 a2 a3 a4 a5 a6 a7 a8 a9 a10 :=
  ⟨2, br_f (by decide) (br_f (nI_ne0 hn (by omega)) ⟨pk_in n 24 hn2, nm_r (e' := (0 : Int32)) (by rw [nI_clamp (by omega)]; exact h7) ⟨ft_in0 24 (by omega) (by omega), pk_in n 24 hn2, nm_r (e' := upd a6 n (nI r)) (by rw [nI_clamp (by omega), sb_cl0, h6, ft_nar hr]) (nm_e (br_f (by decide) (br_t rfl H)))⟩⟩)⟩
theorem ft_bk2b {post : St2 → Prop} {f0 f1 f2 f3 f4 f5 f6 f7 : Int32} {a1 a2 a3 a4 a5 a6 a7 a8 a9 a10 : Nat → Int32} {n q r s : Nat} (hn : 1 ≤ n) (hn2 : n < 24) (hq : 1 ≤ q) (hq2 : q < 24) (h7 : a7 n = nI q) (h7q : a7 q = 0) (h6 : a6 0 = nI r) (hr : r < 24) (h6q : a6 q = nI s) (hs : s < 24) (H : post (f0, f1, f2, f3, f4, f5, f6, f7, a1, a2, a3, a4, a5, upd (upd a6 n (nI s)) q (nI r), a7, a8, a9, a10)) : ∃ k, wX_insert_2_89 post f0 f1 f2 f3 f4 f5 f6 f7 k (nI n) 0 a1 a2 a3 a4 a5 a6 a7 a8 a9 a10 :=
  ⟨3, br_f (by decide) (br_f (nI_ne0 hn (by omega)) ⟨pk_in n 24 hn2, nm_r (e' := nI q) (by rw [nI_clamp (by omega)]; exact h7) ⟨pk_in q 24 hq2, pk_in n 24 hn2, nm_r (e' := upd a6 n (nI s)) (by rw [nI_clamp (by omega), nI_clamp (by omega), h6q, ft_nar hs])
    (nm_e (br_f (by decide) (br_f (nI_ne0 hq (by omega)) ⟨pk_in q 24 hq2, nm_r (e' := (0 : Int32)) (by rw [nI_clamp (by omega)]; exact h7q) ⟨ft_in0 24 (by omega) (by omega), pk_in q 24 hq2, nm_r (e' := upd (upd a6 n (nI s)) q (nI r)) (by rw [nI_clamp (by omega), sb_cl0, pk_un (show 0 ≠ n by omega), h6, ft_nar hr]) (nm_e (br_f (by decide) (br_t rfl H)))⟩⟩)))⟩⟩)⟩
theorem ft_inib {post : St2 → Prop} {f0 f1 f2 f3 f4 f6 f7 : Int32} {a1 a2 a3 a4 a5 a6 a7 a8 a9 a10 : Nat → Int32} {C : Nat} (hC : C ≤ 15) (H : wX_insert_2_50 post 3 0 0 f0 f1 f2 f3 f4 (nI C) f6 f7 a1 a2 a3 a4 a5 a6 (ft_w (fun _ => true) (fun _ => 0) a7 (C + 1)) (ft_w (fun _ => true) (fun _ => 268435456) a8 (C + 1)) (ft_w (fun _ => true) (fun _ => 0) a9 (C + 1)) a10) : ∃ n, wX_insert_2_10 post f0 f1 f2 f3 f4 (nI C) f6 f7 n 0 a1 a2 a3 a4 a5 a6 a7 a8 a9 a10 := by
  have q := pk_loop (σ := Unit) (fun n i _ => wX_insert_2_10 post f0 f1 f2 f3 f4 (nI C) f6 f7 n (nI i) a1 a2 a3 a4 a5 a6 (ft_w (fun _ => true) (fun _ => 0) a7 i) (ft_w (fun _ => true) (fun _ => 268435456) a8 i) (ft_w (fun _ => true) (fun _ => 0) a9 i) a10) (fun _ _ => True) (C + 1) 0 () (by omega) trivial
    (fun n _ _ => pk_lt C (C + 1) (fun _ => ⟨3, H⟩) (fun z => absurd z (by omega)))
    (fun n i _ hi _ hw => pk_lt C i (fun z => absurd z (by omega)) (fun _ => ⟨pk_in i 24 (by omega), nm_r (by rw [nI_clamp (by omega)]; exact ft_w_t rfl rfl) ⟨pk_in i 24 (by omega), nm_r (by rw [nI_clamp (by omega)]; exact ft_w_t rfl rfl) ⟨pk_in i 24 (by omega), nm_r (by rw [nI_clamp (by omega)]; exact ft_w_t rfl rfl) (nm_r (nI_1 i) (hw () trivial))⟩⟩⟩))
  rw [ft_w_0, ft_w_0, ft_w_0] at q
  exact q
theorem ft_firstb {post : St2 → Prop} {f0 f1 f2 f3 f4 f6 f7 : Int32} {a1 a2 a3 a4 a5 a6 a7 a8 a9 a10 : Nat → Int32} {r C : Nat} {K : Nat → Nat} (hC1 : 1 ≤ C) (hC : C ≤ 15) (hr : r < 6) (hK : ∀ c, K c ≤ 100000) (h4 : a4 r = 0) (h5 : ∀ c, 1 ≤ c → c ≤ C → a5 c = 0) (hc : ft_CO f0 f1 f2 f3 f4 f6 f7 a1 a2 a3 a10 C r K)
    (H : ∀ (n : Nat) (b5 b7 b8 b9 : Nat → Int32), 1 ≤ n → n ≤ C → (∀ c, 1 ≤ c → c ≤ C → K n ≤ K c) → (∀ c, 1 ≤ c → c ≤ C → b5 c = 0) → (∀ c, c ≤ C → b7 c = 0) → (∀ c, 1 ≤ c → c ≤ C → b8 c = nI (K c - K n)) → b9 0 = 1 → (∀ c, 1 ≤ c → c ≤ C → b9 c = 0) → wX_insert_2_50 post 2 (nI n) 1 f0 f1 f2 f3 f4 (nI C) f6 f7 a1 a2 a3 (upd a4 r (nI (K n))) b5 (upd a6 0 (nI r)) b7 b8 b9 a10) :
    wpX_insert_2 post (f0, f1, f2, f3, f4, nI C, f6, f7, a1, a2, a3, a4, a5, a6, a7, a8, a9, a10) (nI r) := by
  refine nm_r (e' := upd a6 0 (nI r)) (by rw [ft_by r (by omega)]) (ft_inib hC ?_)
  have w7 : ∀ c, c ≤ C → ft_w (fun _ => true) (fun _ => 0) a7 (C + 1) c = 0 := fun c h => ft_w_in (by omega) rfl
  have w8 : ∀ c, c ≤ C → ft_w (fun _ => true) (fun _ => 268435456) a8 (C + 1) c = 268435456 := fun c h => ft_w_in (by omega) rfl
  have w9 : ∀ c, c ≤ C → ft_w (fun _ => true) (fun _ => 0) a9 (C + 1) c = 0 := fun c h => ft_w_in (by omega) rfl
  have w9' : ∀ c, 1 ≤ c → c ≤ C → upd (ft_w (fun _ => true) (fun _ => 0) a9 (C + 1)) 0 1 c = 0 := fun c h1 h2 => by rw [pk_un (by omega)]; exact w9 c h2
  have w90 : upd (ft_w (fun _ => true) (fun _ => 0) a9 (C + 1)) 0 1 0 = 1 := pk_us
  have w6 : upd a6 0 (nI r) 0 = nI r := pk_us
  generalize ft_w (fun _ => true) (fun _ => 0) a7 (C + 1) = c7 at *
  generalize ft_w (fun _ => true) (fun _ => 268435456) a8 (C + 1) = c8 at *
  generalize hc9 : upd (ft_w (fun _ => true) (fun _ => 0) a9 (C + 1)) 0 1 = c9 at *
  have vv : ∀ c, 1 ≤ c → c ≤ C → ft_V (fun c => nI (K c)) c8 c = nI (K c) := fun c h1 h2 => ft_V1 (w8 c h2) (hK c)
  refine br_f (by decide) (br_t rfl ⟨ft_in0 24 (by omega) (by omega), nm_r (e' := c9) (by rw [sb_cl0]; exact hc9) (ft_advb (p := 0) (r := r) (C := C) (K := K) (R := fun c => nI (K c)) hC (by omega) hr w6 (fun c h1 h2 => ?_) (fun a7 a8 c h1 h2 => hc _ _ _ _ _ _ c h1 h2) (fun c h1 h2 => ?_) ⟨1, by omega, hC1, w9' 1 (by omega) hC1, ?_⟩ (fun n b4 b5 b7 b8 n1 n2 n3 n4 e4 e5 e7 e7' e8 => nm_r (e' := (1 : Int32)) (by decide) ?_))⟩)
  · rw [h4, h5 c h1 h2]
    simp
  · by_cases e : c = 0
    · rw [e, w6]
      exact pk_in r 6 hr
    · exact absurd (w9' c (by omega) h1) h2
  · rw [vv 1 (by omega) hC1]
    exact nI_ge (b := 268435456) (by have := hK 1; omega) (by decide)
  · rw [vv n n1 n2] at e4
    have e4' : b4 = upd a4 r (nI (K n)) := by
      rw [e4, ft_u4_0 (by rw [w90]; decide) C (fun c h1 h2 => w9' c h1 (by omega)), w6, nI_clamp (by omega), h4]
      simp
    rw [e4']
    refine H n b5 b7 b8 c9 n1 n2 (fun c h1 h2 => ?_) (fun c h1 h2 => ?_) (fun c h2 => ?_) (fun c h1 h2 => ?_) w90 w9'
    · have g := n4 c h1 h2 (w9' c h1 h2)
      rw [vv n n1 n2, vv c h1 h2] at g
      exact (nI_leI (by have := hK n; omega) (by have := hK c; omega)).mp g
    · rw [e5 c (w9' c h1 h2)]
      exact h5 c h1 h2
    · by_cases z : 1 ≤ c ∧ c ≤ C ∧ c9 c = 0 ∧ ¬ c8 c ≤ nI (K c)
      · exact e7' c z.1 z.2.1 z.2.2.1 z.2.2.2
      · rw [e7 c z]
        exact w7 c h2
    · have g := n4 c h1 h2 (w9' c h1 h2)
      rw [vv n n1 n2, vv c h1 h2] at g
      have g' := (nI_leI (by have := hK n; omega) (by have := hK c; omega)).mp g
      rw [e8 c h1 h2 (w9' c h1 h2), vv n n1 n2, vv c h1 h2, pk_sub g']
/-- a row comes into an empty matching -/
theorem ft_ins1b {post : St2 → Prop} {f0 f1 f2 f3 f4 f6 f7 : Int32} {a1 a2 a3 a4 a5 a6 a7 a8 a9 a10 : Nat → Int32} {r C : Nat} {K : Nat → Nat} (hC1 : 1 ≤ C) (hC : C ≤ 15) (hr : r < 6) (hK : ∀ c, K c ≤ 100000) (h4 : a4 r = 0) (h5 : ∀ c, 1 ≤ c → c ≤ C → a5 c = 0) (h6 : ∀ c, 1 ≤ c → c ≤ C → a6 c = 0) (hc : ft_CO f0 f1 f2 f3 f4 f6 f7 a1 a2 a3 a10 C r K)
    (H : ∀ (n : Nat) (b5 b6 b7 b8 b9 : Nat → Int32), 1 ≤ n → n ≤ C → (∀ c, 1 ≤ c → c ≤ C → K n ≤ K c) → (∀ c, 1 ≤ c → c ≤ C → b5 c = 0) → b6 n = nI r → (∀ c, 1 ≤ c → c ≤ C → c ≠ n → b6 c = 0) → post (f0, f1, f2, f3, f4, nI C, f6, f7, a1, a2, a3, upd a4 r (nI (K n)), b5, b6, b7, b8, b9, a10)) :
    wpX_insert_2 post (f0, f1, f2, f3, f4, nI C, f6, f7, a1, a2, a3, a4, a5, a6, a7, a8, a9, a10) (nI r) := by
  refine ft_firstb hC1 hC hr hK h4 h5 hc (fun n b5 b7 b8 b9 n1 n2 hm q5 q7 q8 q90 q9 => br_f (by decide) (br_f (by decide) ⟨pk_in n 24 (by omega), br_t ?_ (ft_bk1b n1 (by omega) (q7 n n2) pk_us (by omega) (H n b5 _ b7 b8 b9 n1 n2 hm q5 pk_us (fun c h1 h2 h3 => ?_)))⟩))
  · rw [nI_clamp (by omega), pk_un (by omega)]
    exact h6 n n1 n2
  · rw [pk_un h3, pk_un (by omega)]
    exact h6 c h1 h2
/-- the second row comes in beside the first -/
theorem ft_ins2b {post : St2 → Prop} {f0 f1 f2 f3 f4 f6 f7 : Int32} {a1 a2 a3 a4 a5 a6 a7 a8 a9 a10 : Nat → Int32} {C n1 : Nat} {K1 K2 : Nat → Nat} (hC1 : 2 ≤ C) (hC : C ≤ 15) (hK1 : ∀ c, K1 c ≤ 100000) (hK2 : ∀ c, K2 c ≤ 100000) (n11 : 1 ≤ n1) (n12 : n1 ≤ C) (hm : ∀ c, 1 ≤ c → c ≤ C → K1 n1 ≤ K1 c) (h41 : a4 1 = nI (K1 n1)) (h42 : a4 2 = 0) (h5 : ∀ c, 1 ≤ c → c ≤ C → a5 c = 0) (h6n : a6 n1 = nI 1) (h6 : ∀ c, 1 ≤ c → c ≤ C → c ≠ n1 → a6 c = 0) (hc1 : ft_CO f0 f1 f2 f3 f4 f6 f7 a1 a2 a3 a10 C 1 K1) (hc2 : ft_CO f0 f1 f2 f3 f4 f6 f7 a1 a2 a3 a10 C 2 K2)
    (H : ∀ (p q : Nat) (b4 b5 b6 b7 b8 b9 : Nat → Int32), 1 ≤ p → p ≤ C → 1 ≤ q → q ≤ C → p ≠ q → (∀ c d, 1 ≤ c → c ≤ C → 1 ≤ d → d ≤ C → c ≠ d → K1 p + K2 q ≤ K1 c + K2 d) → b6 p = nI 1 → b6 q = nI 2 → (∀ c, 1 ≤ c → c ≤ C → c ≠ p → c ≠ q → b6 c = 0) → post (f0, f1, f2, f3, f4, nI C, f6, f7, a1, a2, a3, b4, b5, b6, b7, b8, b9, a10)) :
    wpX_insert_2 post (f0, f1, f2, f3, f4, nI C, f6, f7, a1, a2, a3, a4, a5, a6, a7, a8, a9, a10) (nI 2) := by
  refine ft_firstb (r := 2) (K := K2) (by omega) hC (by omega) hK2 h42 h5 hc2 (fun n b5 b7 b8 b9 g1 g2 gm q5 q7 q8 q90 q9 => ?_)
  by_cases e : n = n1
  · subst e
    have r0 : ∀ c, 1 ≤ c → c ≤ C → c ≠ n → upd b9 n 1 c = 0 := fun c h1 h2 h3 => by rw [pk_un h3]; exact q9 c h1 h2
    have r1 : ∀ c, upd b9 n 1 c = 0 → c ≠ n := fun c h1 h2 => by
      rw [h2, pk_us] at h1
      exact absurd h1 (by decide)
    have r2 : upd b9 n 1 n = 1 := pk_us
    generalize hc9 : upd b9 n 1 = c9 at *
    have vv : ∀ c, 1 ≤ c → c ≤ C → ft_V (fun c => nI (K1 c - K1 n)) b8 c = nI (min (K2 c - K2 n) (K1 c - K1 n)) := fun c h1 h2 => ft_V2 (q8 c h1 h2) rfl (by have := hK2 c; omega) (by have := hK1 c; omega)
    have ev : ∃ c, 1 ≤ c ∧ c ≤ C ∧ c9 c = 0 ∧ ¬ 268435456 ≤ ft_V (fun c => nI (K1 c - K1 n)) b8 c := by
      have z : ∀ c, 1 ≤ c → c ≤ C → ¬ 268435456 ≤ ft_V (fun c => nI (K1 c - K1 n)) b8 c := fun c h1 h2 => by
        rw [vv c h1 h2]
        exact nI_ge (b := 268435456) (by have := hK1 c; omega) (by decide)
      by_cases e1 : n = 1
      · exact ⟨2, by omega, hC1, r0 2 (by omega) hC1 (by omega), z 2 (by omega) hC1⟩
      · exact ⟨1, by omega, by omega, r0 1 (by omega) (by omega) (by omega), z 1 (by omega) (by omega)⟩
    refine br_f (by decide) (br_f (by decide) ⟨pk_in n 24 (by omega), br_f (by rw [nI_clamp (by omega), pk_un (by omega), h6n]; decide) ⟨pk_in n 24 (by omega), nm_r (e' := c9) (by rw [nI_clamp (by omega)]; exact hc9) (ft_advb (p := n) (r := 1) (C := C) (K := K1) (R := fun c => nI (K1 c - K1 n)) hC g2 (by omega) (by rw [pk_un (by omega)]; exact h6n) (fun c h1 h2 => ?_) (fun a7 a8 c h1 h2 => hc1 _ _ _ _ _ _ c h1 h2) (fun c h1 h2 => ?_) ev (fun m b4' b5' b7' b8' m1 m2 m3 m4 e4 e5 e7 e7' e8 => nm_r (e' := (2 : Int32)) (by decide) ?_))⟩⟩)
    · rw [pk_un (by decide), h41, q5 c h1 h2, pk_sub (hm c h1 h2)]
      simp
    · by_cases z : c = 0
      · rw [z, pk_us]
        exact pk_in 2 6 (by omega)
      · by_cases z2 : c = n
        · rw [z2, pk_un (by omega), h6n]
          exact pk_in 1 6 (by omega)
        · exact absurd (r0 c (by omega) h1 z2) h2
    · have mn := r1 m m3
      have mV : ∀ c, 1 ≤ c → c ≤ C → c ≠ n → min (K2 m - K2 n) (K1 m - K1 n) ≤ min (K2 c - K2 n) (K1 c - K1 n) := fun c h1 h2 h3 => by
        have y := m4 c h1 h2 (r0 c h1 h2 h3)
        rw [vv m m1 m2, vv c h1 h2] at y
        exact (nI_leI (by have := hK1 m; omega) (by have := hK1 c; omega)).mp y
      have m6 : upd a6 0 (nI 2) m = 0 := by
        rw [pk_un (by omega)]
        exact h6 m m1 m2 mn
      refine br_f (by decide) (br_f (by decide) ⟨pk_in m 24 (by omega), br_t (by rw [nI_clamp (by omega)]; exact m6) ?_⟩)
      by_cases z : K2 m - K2 n ≤ K1 m - K1 n
      · have z' : b8 m ≤ nI (K1 m - K1 n) := by
          rw [q8 m m1 m2]
          exact nI_le z (by have := hK1 m; omega)
        refine ft_bk1b m1 (by omega) ((e7 m (fun y => y.2.2.2 z')).trans (q7 m m2)) pk_us (by omega) (H n m _ _ _ _ _ _ g1 g2 m1 m2 (fun y => mn y.symm) (ft_opt1 hm gm mn mV z) ?_ pk_us (fun c h1 h2 h3 h4 => ?_))
        · rw [pk_un (fun y => mn y.symm), pk_un (by omega)]
          exact h6n
        · rw [pk_un h4, pk_un (by omega)]
          exact h6 c h1 h2 h3
      · have z' : ¬ b8 m ≤ nI (K1 m - K1 n) := by
          rw [q8 m m1 m2]
          exact nI_ge (by omega) (by have := hK2 m; omega)
        refine ft_bk2b m1 (by omega) g1 (by omega) (e7' m m1 m2 m3 z') ((e7 n (fun y => r1 n y.2.2.1 rfl)).trans (q7 n g2)) pk_us (by omega) ((pk_un (by omega)).trans h6n) (by omega) (H m n _ _ _ _ _ _ m1 m2 g1 g2 mn (ft_opt2 hm gm mn mV (by omega)) ?_ pk_us (fun c h1 h2 h3 h4 => ?_))
        · rw [pk_un mn]
          exact pk_us
        · rw [pk_un h4, pk_un h3, pk_un (by omega)]
          exact h6 c h1 h2 h4
  · refine br_f (by decide) (br_f (by decide) ⟨pk_in n 24 (by omega), br_t ?_ (ft_bk1b g1 (by omega) (q7 n g2) pk_us (by omega) (H n1 n _ _ _ _ _ _ n11 n12 g1 g2 (fun y => e y.symm) (fun c d c1 c2 d1 d2 _ => Nat.add_le_add (hm c c1 c2) (gm d d1 d2)) ?_ pk_us (fun c h1 h2 h3 h4 => ?_)))⟩)
    · rw [nI_clamp (by omega), pk_un (by omega)]
      exact h6 n g1 g2 e
    · rw [pk_un (fun y => e y.symm), pk_un (by omega)]
      exact h6n
    · rw [pk_un h4, pk_un (by omega)]
      exact h6 c h1 h2 h3
end
section
def ft_sum (g : Nat → Nat) : Nat → Nat
  | 0 => 0
  | i + 1 => ft_sum g i + g i
theorem ft_sum1 {g : Nat → Nat} {p : Nat} (h : ∀ c, c ≠ p → g c = 0) (i : Nat) : ft_sum g i = if p < i then g p else 0 := by
  induction i with
  | zero => exact (if_neg (by omega)).symm
  | succ i ih =>
    show ft_sum g i + g i = _
    rw [ih]
    by_cases e : i = p
    · rw [e, if_neg (by omega), if_pos (by omega), Nat.zero_add]
    · rw [h i e, Nat.add_zero]
      by_cases z : p < i
      · rw [if_pos z, if_pos (by omega)]
      · rw [if_neg z, if_neg (by omega)]
theorem ft_sum2 {g : Nat → Nat} {p q : Nat} (hpq : p ≠ q) (h : ∀ c, c ≠ p → c ≠ q → g c = 0) (i : Nat) : ft_sum g i = (if p < i then g p else 0) + (if q < i then g q else 0) := by
  induction i with
  | zero => rw [if_neg (by omega), if_neg (by omega)]; rfl
  | succ i ih =>
    show ft_sum g i + g i = _
    rw [ih]
    by_cases e : i = p
    · rw [e, if_neg (show ¬ p < p by omega), if_pos (show p < p + 1 by omega)]
      by_cases z : q < p
      · rw [if_pos z, if_pos (by omega)]
        omega
      · rw [if_neg z, if_neg (by omega)]
        omega
    · by_cases e2 : i = q
      · rw [e2, if_neg (show ¬ q < q by omega), if_pos (show q < q + 1 by omega)]
        by_cases z : p < q
        · rw [if_pos z, if_pos (by omega)]
          omega
        · rw [if_neg z, if_neg (by omega)]
      · rw [h i e e2, Nat.add_zero]
        have y1 : (if p < i + 1 then g p else 0) = (if p < i then g p else 0) := by
          by_cases z : p < i
          · rw [if_pos z, if_pos (by omega)]
          · rw [if_neg z, if_neg (by omega)]
        have y2 : (if q < i + 1 then g q else 0) = (if q < i then g q else 0) := by
          by_cases z : q < i
          · rw [if_pos z, if_pos (by omega)]
          · rw [if_neg z, if_neg (by omega)]
        rw [y1, y2]
/-- the costs of the picture -/
theorem ft_co {f1 f4 f6 f7 : Int32} {a1 a2 a3 a10 : Nat → Int32} {t : Nat → Nat → Nat} {w : Nat → Nat} {D : Int32} {C r j : Nat} (hk : ft_ok t w a1 a2) (hD : ft_dc D C) (hr : r < 6) (hj : a3 r = nI j) (hj2 : j < 2) : ft_CO 2 f1 D (-1) f4 f6 f7 a1 a2 a3 a10 C r (ft_K t w j) :=
  fun _ _ _ _ _ _ _ h1 h2 _ h => ft_cost hk hD hr hj hj2 h1 h2 h
/-- S is the least cost of the two jobs at different columns -/
def ft_min2 (t : Nat → Nat → Nat) (w : Nat → Nat) (C S : Nat) : Prop := (∃ p q, 1 ≤ p ∧ p ≤ C ∧ 1 ≤ q ∧ q ≤ C ∧ p ≠ q ∧ S = ft_K t w 0 p + ft_K t w 1 q) ∧ (∀ p q, 1 ≤ p → p ≤ C → 1 ≤ q → q ≤ C → p ≠ q → S ≤ ft_K t w 0 p + ft_K t w 1 q)
/-- S is the least cost of job 1 alone -/
def ft_min1 (t : Nat → Nat → Nat) (w : Nat → Nat) (C S : Nat) : Prop := (∃ p, 1 ≤ p ∧ p ≤ C ∧ S = ft_K t w 1 p) ∧ (∀ p, 1 ≤ p → p ≤ C → S ≤ ft_K t w 1 p)
end
section
theorem ft_s151 {post : Int32 → St2 → Prop} {f0 f1 f2 f3 f4 f6 f7 : Int32} {a1 a2 a3 a4 a5 a6 a7 a8 a9 a10 : Nat → Int32} {C : Nat} {g : Nat → Nat} (hC : C ≤ 15) (hg0 : g 0 = 0)
    (hg : ∀ c, 1 ≤ c → c ≤ C → (a6 c = 0 ∧ g c = 0) ∨ (∃ r, 1 ≤ r ∧ r < 6 ∧ a6 c = nI r ∧ ∀ ψ : Int32 → Prop, ψ (nI (g c)) → wpX_costOf ψ (f0, f1, f2, f3, f4, nI C, f6, f7, a1, a2, a3, a4, a5, a6, a7, a8, a9, a10) (nI r) (nI c)))
    (H : post (nI (ft_sum g (C + 1))) (f0, f1, f2, f3, f4, nI C, f6, f7, a1, a2, a3, a4, a5, a6, a7, a8, a9, a10)) : ∃ n, wX_match_151 post f0 f1 f2 f3 f4 (nI C) f6 f7 a1 a2 a3 a4 a5 a6 a7 a8 a9 a10 n 0 1 := by
  have q := pk_loop (σ := Unit) (fun n i _ => wX_match_151 post f0 f1 f2 f3 f4 (nI C) f6 f7 a1 a2 a3 a4 a5 a6 a7 a8 a9 a10 n (nI (ft_sum g i)) (nI i)) (fun i _ => 1 ≤ i) (C + 1) 1 () (by omega) (by omega)
    (fun n _ _ => pk_lt C (C + 1) (fun _ => H) (fun z => absurd z (by omega)))
    (fun n i _ hi h1 hw => pk_lt C i (fun z => absurd z (by omega)) (fun _ => ⟨pk_in i 24 (by omega), ?_⟩))
  · have e : ft_sum g 1 = 0 := by
      show 0 + g 0 = 0
      rw [hg0]
    rw [e] at q
    exact q
  · have hw : wX_match_151 post f0 f1 f2 f3 f4 (nI C) f6 f7 a1 a2 a3 a4 a5 a6 a7 a8 a9 a10 n (nI (ft_sum g i + g i)) (nI (i + 1)) := hw () (by omega)
    rw [nI_clamp (by omega)]
    rcases hg i h1 (by omega) with ⟨z, y⟩ | ⟨r, r1, r2, r3, r4⟩
    · rw [y, Nat.add_zero] at hw
      exact br_t (by rw [z]; decide) (nm_r (nI_1 i) hw)
    · rw [r3]
      exact br_f (nI_nle r1 (by omega)) ⟨pk_in i 24 (by omega), r4 _ (nm_r (nI_add _ _) (nm_r (nI_1 i) hw))⟩
theorem ft_m98 {post : Int32 → St2 → Prop} {f0 f1 f2 f3 f4 f6 f7 : Int32} {a1 a2 a3 a4 a5 a6 a7 a8 a9 a10 : Nat → Int32} {C k : Nat} (hC : C ≤ 15) (H : wX_match_128 post k 1 f0 f1 f2 f3 f4 (nI C) f6 f7 a1 a2 a3 a4 (ft_w (fun _ => true) (fun _ => 0) a5 (C + 1)) (ft_w (fun _ => true) (fun _ => 0) a6 (C + 1)) a7 a8 a9 a10) : ∃ n, wX_match_98 post f0 f1 f2 f3 f4 (nI C) f6 f7 n 0 a1 a2 a3 a4 a5 a6 a7 a8 a9 a10 := by
  have q := pk_loop (σ := Unit) (fun n i _ => wX_match_98 post f0 f1 f2 f3 f4 (nI C) f6 f7 n (nI i) a1 a2 a3 a4 (ft_w (fun _ => true) (fun _ => 0) a5 i) (ft_w (fun _ => true) (fun _ => 0) a6 i) a7 a8 a9 a10) (fun _ _ => True) (C + 1) 0 () (by omega) trivial
    (fun n _ _ => pk_lt C (C + 1) (fun _ => ⟨k, H⟩) (fun z => absurd z (by omega)))
    (fun n i _ hi _ hw => pk_lt C i (fun z => absurd z (by omega)) (fun _ => ⟨pk_in i 24 (by omega), nm_r (by rw [nI_clamp (by omega)]; exact ft_w_t rfl rfl) ⟨pk_in i 24 (by omega), nm_r (by rw [nI_clamp (by omega)]; exact ft_w_t rfl rfl) (nm_r (nI_1 i) (hw () trivial))⟩⟩))
  rw [ft_w_0, ft_w_0] at q
  exact q
theorem ft_m75 {post : Int32 → St2 → Prop} {f0 f1 f2 f3 f5 f6 f7 : Int32} {a1 a2 a3 a4 a5 a6 a7 a8 a9 a10 : Nat → Int32} {R : Nat} (hR : R ≤ 5) (H : ∃ n, wX_match_98 post f0 f1 f2 f3 (nI R) f5 f6 f7 n 0 a1 a2 a3 (ft_w (fun _ => true) (fun _ => 0) a4 (R + 1)) a5 a6 a7 a8 a9 a10) : ∃ n, wX_match_75 post f0 f1 f2 f3 (nI R) f5 f6 f7 n 0 a1 a2 a3 a4 a5 a6 a7 a8 a9 a10 := by
  have q := pk_loop (σ := Unit) (fun n i _ => wX_match_75 post f0 f1 f2 f3 (nI R) f5 f6 f7 n (nI i) a1 a2 a3 (ft_w (fun _ => true) (fun _ => 0) a4 i) a5 a6 a7 a8 a9 a10) (fun _ _ => True) (R + 1) 0 () (by omega) trivial
    (fun n _ _ => pk_lt R (R + 1) (fun _ => H) (fun z => absurd z (by omega)))
    (fun n i _ hi _ hw => pk_lt R i (fun z => absurd z (by omega)) (fun _ => ⟨pk_in i 6 (by omega), nm_r (by rw [nI_clamp (by omega)]; exact ft_w_t rfl rfl) (nm_r (nI_1 i) (hw () trivial))⟩))
  rw [ft_w_0] at q
  exact q
/-- both jobs in the set: row 1 is job 0, row 2 is job 1 -/
theorem ft_m33_3 {post : Int32 → St2 → Prop} {f0 f1 f2 f3 f5 f6 f7 : Int32} {a1 a2 a3 a4 a5 a6 a7 a8 a9 a10 : Nat → Int32} (H : ∀ b3 : Nat → Int32, b3 1 = nI 0 → b3 2 = nI 1 → ∃ n, wX_match_75 post f0 f1 f2 f3 (nI 2) f5 f6 f7 n 0 a1 a2 b3 a4 a5 a6 a7 a8 a9 a10) : ∃ n, wX_match_33 post 3 f0 f1 f2 f3 f5 f6 f7 n 0 0 a1 a2 a3 a4 a5 a6 a7 a8 a9 a10 := by
  refine ⟨6, br_f (by decide) (br_f (by decide) (nm_r (e' := (1 : Int32)) (by decide) ⟨pk_in 1 6 (by omega), nm_r (e' := upd a3 1 0) (by rfl) (nm_r (e' := (1 : Int32)) (by decide) ?_)⟩))⟩
  refine br_f (by decide) (br_f (by decide) (nm_r (e' := (2 : Int32)) (by decide) ⟨pk_in 2 6 (by omega), nm_r (e' := upd (upd a3 1 0) 2 1) (by rfl) (nm_r (e' := (2 : Int32)) (by decide) ?_)⟩))
  refine br_f (by decide) (br_t (by decide) (nm_r (e' := (3 : Int32)) (by decide) ?_))
  refine br_f (by decide) (br_t (by decide) (nm_r (e' := (4 : Int32)) (by decide) ?_))
  refine br_f (by decide) (br_t (by decide) (nm_r (e' := (5 : Int32)) (by decide) ?_))
  exact br_t (by decide) (H _ rfl rfl)
/-- job 1 alone -/
theorem ft_m33_2 {post : Int32 → St2 → Prop} {f0 f1 f2 f3 f5 f6 f7 : Int32} {a1 a2 a3 a4 a5 a6 a7 a8 a9 a10 : Nat → Int32} (H : ∀ b3 : Nat → Int32, b3 1 = nI 1 → ∃ n, wX_match_75 post f0 f1 f2 f3 (nI 1) f5 f6 f7 n 0 a1 a2 b3 a4 a5 a6 a7 a8 a9 a10) : ∃ n, wX_match_33 post 2 f0 f1 f2 f3 f5 f6 f7 n 0 0 a1 a2 a3 a4 a5 a6 a7 a8 a9 a10 := by
  refine ⟨6, br_f (by decide) (br_t (by decide) (nm_r (e' := (1 : Int32)) (by decide) ?_))⟩
  refine br_f (by decide) (br_f (by decide) (nm_r (e' := (1 : Int32)) (by decide) ⟨pk_in 1 6 (by omega), nm_r (e' := upd a3 1 1) (by rfl) (nm_r (e' := (2 : Int32)) (by decide) ?_)⟩))
  refine br_f (by decide) (br_t (by decide) (nm_r (e' := (3 : Int32)) (by decide) ?_))
  refine br_f (by decide) (br_t (by decide) (nm_r (e' := (4 : Int32)) (by decide) ?_))
  refine br_f (by decide) (br_t (by decide) (nm_r (e' := (5 : Int32)) (by decide) ?_))
  exact br_t (by decide) (H _ rfl)
theorem ft_rows2 {post : Int32 → St2 → Prop} {f0 f1 f2 f3 f6 f7 : Int32} {a1 a2 a3 a4 a5 a6 a7 a8 a9 a10 : Nat → Int32} {C : Nat} {K1 K2 : Nat → Nat} (hC1 : 2 ≤ C) (hC : C ≤ 15) (hK1 : ∀ c, K1 c ≤ 100000) (hK2 : ∀ c, K2 c ≤ 100000) (h41 : a4 1 = 0) (h42 : a4 2 = 0) (h5 : ∀ c, 1 ≤ c → c ≤ C → a5 c = 0) (h6 : ∀ c, 1 ≤ c → c ≤ C → a6 c = 0) (hc1 : ft_CO f0 f1 f2 f3 (nI 2) f6 f7 a1 a2 a3 a10 C 1 K1) (hc2 : ft_CO f0 f1 f2 f3 (nI 2) f6 f7 a1 a2 a3 a10 C 2 K2)
    (H : ∀ (p q : Nat) (b4 b5 b6 b7 b8 b9 : Nat → Int32), 1 ≤ p → p ≤ C → 1 ≤ q → q ≤ C → p ≠ q → (∀ c d, 1 ≤ c → c ≤ C → 1 ≤ d → d ≤ C → c ≠ d → K1 p + K2 q ≤ K1 c + K2 d) → post (nI (K1 p + K2 q)) (f0, f1, f2, f3, nI 2, nI C, f6, f7, a1, a2, a3, b4, b5, b6, b7, b8, b9, a10)) :
    wX_match_128 post 3 1 f0 f1 f2 f3 (nI 2) (nI C) f6 f7 a1 a2 a3 a4 a5 a6 a7 a8 a9 a10 := by
  refine br_f (by decide) (ft_ins1 (r := 1) (K := K1) (by omega) hC (by omega) hK1 h41 h5 h6 hc1 (fun n b5 b6 b7 b8 b9 n1 n2 nm q5 q6 q6' => nm_r (e' := (2 : Int32)) (by decide) (br_f (by decide) (ft_ins2 (n1 := n) (K1 := K1) (K2 := K2) hC1 hC hK1 hK2 n1 n2 nm pk_us ((pk_un (by decide)).trans h42) q5 q6 q6' hc1 hc2 (fun p q c4 c5 c6 c7 c8 c9 p1 p2 q1 q2 pq ho s1 s2 s3 => nm_r (e' := (3 : Int32)) (by decide) (br_t (by decide) ?_))))))
  have e : ft_sum (fun c => if c = p then K1 p else if c = q then K2 q else 0) (C + 1) = K1 p + K2 q := by
    rw [ft_sum2 pq (fun c h1 h2 => by rw [if_neg h1, if_neg h2]), if_pos (show p < C + 1 by omega), if_pos (show q < C + 1 by omega), if_pos rfl, if_neg (show ¬ q = p from fun z => pq z.symm), if_pos rfl]
  refine ft_s151 (g := fun c => if c = p then K1 p else if c = q then K2 q else 0) hC ((if_neg (by omega)).trans (if_neg (by omega))) (fun c h1 h2 => ?_) (by rw [e]; exact H p q c4 c5 c6 c7 c8 c9 p1 p2 q1 q2 pq ho)
  by_cases z : c = p
  · refine Or.inr ⟨1, by omega, by omega, by rw [z]; exact s1, fun ψ h => ?_⟩
    refine hc1 _ _ _ _ _ _ c h1 h2 ψ ?_
    rw [if_pos z] at h
    rw [z]
    exact h
  · by_cases z2 : c = q
    · refine Or.inr ⟨2, by omega, by omega, by rw [z2]; exact s2, fun ψ h => ?_⟩
      refine hc2 _ _ _ _ _ _ c h1 h2 ψ ?_
      rw [if_neg z, if_pos z2] at h
      rw [z2]
      exact h
    · exact Or.inl ⟨s3 c h1 h2 z z2, by rw [if_neg z, if_neg z2]⟩
theorem ft_rows1 {post : Int32 → St2 → Prop} {f0 f1 f2 f3 f6 f7 : Int32} {a1 a2 a3 a4 a5 a6 a7 a8 a9 a10 : Nat → Int32} {C : Nat} {K : Nat → Nat} (hC1 : 2 ≤ C) (hC : C ≤ 15) (hK : ∀ c, K c ≤ 100000) (h41 : a4 1 = 0) (h5 : ∀ c, 1 ≤ c → c ≤ C → a5 c = 0) (h6 : ∀ c, 1 ≤ c → c ≤ C → a6 c = 0) (hc1 : ft_CO f0 f1 f2 f3 (nI 1) f6 f7 a1 a2 a3 a10 C 1 K)
    (H : ∀ (p : Nat) (b4 b5 b6 b7 b8 b9 : Nat → Int32), 1 ≤ p → p ≤ C → (∀ c, 1 ≤ c → c ≤ C → K p ≤ K c) → post (nI (K p)) (f0, f1, f2, f3, nI 1, nI C, f6, f7, a1, a2, a3, b4, b5, b6, b7, b8, b9, a10)) :
    wX_match_128 post 2 1 f0 f1 f2 f3 (nI 1) (nI C) f6 f7 a1 a2 a3 a4 a5 a6 a7 a8 a9 a10 := by
  refine br_f (by decide) (ft_ins1 (r := 1) (K := K) (by omega) hC (by omega) hK h41 h5 h6 hc1 (fun n b5 b6 b7 b8 b9 n1 n2 nm q5 q6 q6' => nm_r (e' := (2 : Int32)) (by decide) (br_t (by decide) ?_)))
  have e : ft_sum (fun c => if c = n then K n else 0) (C + 1) = K n := by
    rw [ft_sum1 (p := n) (fun c h1 => by rw [if_neg h1]), if_pos (by omega), if_pos rfl]
  refine ft_s151 (g := fun c => if c = n then K n else 0) hC (if_neg (by omega)) (fun c h1 h2 => ?_) (by rw [e]; exact H n (upd a4 1 (nI (K n))) b5 b6 b7 b8 b9 n1 n2 nm)
  by_cases z : c = n
  · refine Or.inr ⟨1, by omega, by omega, by rw [z]; exact q6, fun ψ h => ?_⟩
    refine hc1 _ _ _ _ _ _ c h1 h2 ψ ?_
    rw [if_pos z] at h
    rw [z]
    exact h
  · exact Or.inl ⟨q6' c h1 h2 z, by rw [if_neg z]⟩
theorem ft_match2 {post : Int32 → St2 → Prop} {f1 f4 f5 f6 f7 : Int32} {a1 a2 a3 a4 a5 a6 a7 a8 a9 a10 : Nat → Int32} {t : Nat → Nat → Nat} {w : Nat → Nat} {D : Int32} {C : Nat} (hk : ft_ok t w a1 a2) (hD : ft_dc D C)
    (H : ∀ (S : Nat) (g4 g5 : Int32) (b3 b4 b5 b6 b7 b8 b9 : Nat → Int32), ft_min2 t w C S → post (nI S) (2, f1, D, (-1), g4, g5, f6, f7, a1, a2, b3, b4, b5, b6, b7, b8, b9, a10)) :
    wpX_match post (2, f1, D, (-1), f4, f5, f6, f7, a1, a2, a3, a4, a5, a6, a7, a8, a9, a10) 3 := by
  have hw : ∃ n, wX_match_33 post 3 2 f1 D (-1) (nI C) f6 f7 n 0 0 a1 a2 a3 a4 a5 a6 a7 a8 a9 a10 := by
    have hC := ft_dcC hD
    have hC2 : 2 ≤ C := by rcases hD with h | h <;> omega
    refine ft_m33_3 (fun b3 y1 y2 => ft_m75 (by omega) (ft_m98 (k := 3) hC.2 (ft_rows2 (K1 := ft_K t w 0) (K2 := ft_K t w 1) hC2 hC.2 (ft_K_le hk (by omega)) (ft_K_le hk (by omega)) (ft_w_in (by omega) rfl) (ft_w_in (by omega) rfl) (fun c h1 h2 => ft_w_in (by omega) rfl) (fun c h1 h2 => ft_w_in (by omega) rfl) (ft_co hk hD (by omega) y1 (by omega)) (ft_co hk hD (by omega) y2 (by omega)) (fun p q b4 b5 b6 b7 b8 b9 p1 p2 q1 q2 pq ho => H _ _ _ _ _ _ _ _ _ _ ⟨⟨p, q, p1, p2, q1, q2, pq, rfl⟩, ho⟩))))
  rcases hD with ⟨h1, h2⟩ | ⟨h1, h2⟩
  · rw [h1, h2] at hw
    rw [h1]
    exact br_t (by decide) (nm_r (e' := nI 10) (by decide) hw)
  · rw [h1, h2] at hw
    rw [h1]
    exact br_f (by decide) (nm_r (e' := nI 15) (by decide) hw)
theorem ft_match1 {post : Int32 → St2 → Prop} {f1 f4 f5 f6 f7 : Int32} {a1 a2 a3 a4 a5 a6 a7 a8 a9 a10 : Nat → Int32} {t : Nat → Nat → Nat} {w : Nat → Nat} {D : Int32} {C : Nat} (hk : ft_ok t w a1 a2) (hD : ft_dc D C)
    (H : ∀ (S : Nat) (g4 g5 : Int32) (b3 b4 b5 b6 b7 b8 b9 : Nat → Int32), ft_min1 t w C S → post (nI S) (2, f1, D, (-1), g4, g5, f6, f7, a1, a2, b3, b4, b5, b6, b7, b8, b9, a10)) :
    wpX_match post (2, f1, D, (-1), f4, f5, f6, f7, a1, a2, a3, a4, a5, a6, a7, a8, a9, a10) 2 := by
  have hw : ∃ n, wX_match_33 post 2 2 f1 D (-1) (nI C) f6 f7 n 0 0 a1 a2 a3 a4 a5 a6 a7 a8 a9 a10 := by
    have hC := ft_dcC hD
    have hC2 : 2 ≤ C := by rcases hD with h | h <;> omega
    refine ft_m33_2 (fun b3 y1 => ft_m75 (by omega) (ft_m98 (k := 2) hC.2 (ft_rows1 (K := ft_K t w 1) hC2 hC.2 (ft_K_le hk (by omega)) (ft_w_in (by omega) rfl) (fun c h1 h2 => ft_w_in (by omega) rfl) (fun c h1 h2 => ft_w_in (by omega) rfl) (ft_co hk hD (by omega) y1 (by omega)) (fun p b4 b5 b6 b7 b8 b9 p1 p2 ho => H _ _ _ _ _ _ _ _ _ _ ⟨⟨p, p1, p2, rfl⟩, ho⟩))))
  rcases hD with ⟨h1, h2⟩ | ⟨h1, h2⟩
  · rw [h1, h2] at hw
    rw [h1]
    exact br_t (by decide) (nm_r (e' := nI 10) (by decide) hw)
  · rw [h1, h2] at hw
    rw [h1]
    exact br_f (by decide) (nm_r (e' := nI 15) (by decide) hw)
theorem ft_tot2 {post : Int32 → St2 → Prop} {f1 f4 f5 f6 f7 : Int32} {a1 a2 a3 a4 a5 a6 a7 a8 a9 a10 : Nat → Int32} {t : Nat → Nat → Nat} {w : Nat → Nat} {D : Int32} {C T : Nat} (hk : ft_ok t w a1 a2) (hD : ft_dc D C) (hT : ∀ S, ft_min2 t w C S → S = 8 * T) (hT2 : T < 10000)
    (H : ∀ (g4 g5 : Int32) (b3 b4 b5 b6 b7 b8 b9 : Nat → Int32), post (nI T) (2, f1, D, (-1), g4, g5, f6, f7, a1, a2, b3, b4, b5, b6, b7, b8, b9, a10)) :
    wpX_totalOf post (2, f1, D, (-1), f4, f5, f6, f7, a1, a2, a3, a4, a5, a6, a7, a8, a9, a10) 3 := by
  refine ft_match2 (f4 := f4) (f5 := f5) hk hD (fun S g4 g5 b3 b4 b5 b6 b7 b8 b9 hS => ?_)
  rw [hT S hS]
  refine br_t (nI_lt (b := 100000) (by omega) (by decide)) ?_
  rw [show (7 : Int32) = nI 7 from rfl, nI_add, pk_shrN (by omega) _ 3 (by decide), show (8 * T + 7) / 2 ^ 3 = T by omega]
  exact H g4 g5 b3 b4 b5 b6 b7 b8 b9
theorem ft_tot1 {post : Int32 → St2 → Prop} {f1 f4 f5 f6 f7 : Int32} {a1 a2 a3 a4 a5 a6 a7 a8 a9 a10 : Nat → Int32} {t : Nat → Nat → Nat} {w : Nat → Nat} {D : Int32} {C T : Nat} (hk : ft_ok t w a1 a2) (hD : ft_dc D C) (hT : ∀ S, ft_min1 t w C S → S = 8 * T) (hT2 : T < 10000)
    (H : ∀ (g4 g5 : Int32) (b3 b4 b5 b6 b7 b8 b9 : Nat → Int32), post (nI T) (2, f1, D, (-1), g4, g5, f6, f7, a1, a2, b3, b4, b5, b6, b7, b8, b9, a10)) :
    wpX_totalOf post (2, f1, D, (-1), f4, f5, f6, f7, a1, a2, a3, a4, a5, a6, a7, a8, a9, a10) 2 := by
  refine ft_match1 (f4 := f4) (f5 := f5) hk hD (fun S g4 g5 b3 b4 b5 b6 b7 b8 b9 hS => ?_)
  rw [hT S hS]
  refine br_t (nI_lt (b := 100000) (by omega) (by decide)) ?_
  rw [show (7 : Int32) = nI 7 from rfl, nI_add, pk_shrN (by omega) _ 3 (by decide), show (8 * T + 7) / 2 ^ 3 = T by omega]
  exact H g4 g5 b3 b4 b5 b6 b7 b8 b9
theorem ft_s151b {post : Int32 → St2 → Prop} {f0 f1 f2 f3 f4 f6 f7 : Int32} {a1 a2 a3 a4 a5 a6 a7 a8 a9 a10 : Nat → Int32} {C : Nat} {g : Nat → Nat} (hC : C ≤ 15) (hg0 : g 0 = 0)
    (hg : ∀ c, 1 ≤ c → c ≤ C → (a6 c = 0 ∧ g c = 0) ∨ (∃ r, 1 ≤ r ∧ r < 6 ∧ a6 c = nI r ∧ ∀ ψ : Int32 → Prop, ψ (nI (g c)) → wpX_costOf ψ (f0, f1, f2, f3, f4, nI C, f6, f7, a1, a2, a3, a4, a5, a6, a7, a8, a9, a10) (nI r) (nI c)))
    (H : post (nI (ft_sum g (C + 1))) (f0, f1, f2, f3, f4, nI C, f6, f7, a1, a2, a3, a4, a5, a6, a7, a8, a9, a10)) : ∃ n, wX_match_2_151 post f0 f1 f2 f3 f4 (nI C) f6 f7 a1 a2 a3 a4 a5 a6 a7 a8 a9 a10 n 0 1 := by
  have q := pk_loop (σ := Unit) (fun n i _ => wX_match_2_151 post f0 f1 f2 f3 f4 (nI C) f6 f7 a1 a2 a3 a4 a5 a6 a7 a8 a9 a10 n (nI (ft_sum g i)) (nI i)) (fun i _ => 1 ≤ i) (C + 1) 1 () (by omega) (by omega)
    (fun n _ _ => pk_lt C (C + 1) (fun _ => H) (fun z => absurd z (by omega)))
    (fun n i _ hi h1 hw => pk_lt C i (fun z => absurd z (by omega)) (fun _ => ⟨pk_in i 24 (by omega), ?_⟩))
  · have e : ft_sum g 1 = 0 := by
      show 0 + g 0 = 0
      rw [hg0]
    rw [e] at q
    exact q
  · have hw : wX_match_2_151 post f0 f1 f2 f3 f4 (nI C) f6 f7 a1 a2 a3 a4 a5 a6 a7 a8 a9 a10 n (nI (ft_sum g i + g i)) (nI (i + 1)) := hw () (by omega)
    rw [nI_clamp (by omega)]
    rcases hg i h1 (by omega) with ⟨z, y⟩ | ⟨r, r1, r2, r3, r4⟩
    · rw [y, Nat.add_zero] at hw
      exact br_t (by rw [z]; decide) (nm_r (nI_1 i) hw)
    · rw [r3]
      exact br_f (nI_nle r1 (by omega)) ⟨pk_in i 24 (by omega), r4 _ (nm_r (nI_add _ _) (nm_r (nI_1 i) hw))⟩
theorem ft_m98b {post : Int32 → St2 → Prop} {f0 f1 f2 f3 f4 f6 f7 : Int32} {a1 a2 a3 a4 a5 a6 a7 a8 a9 a10 : Nat → Int32} {C k : Nat} (hC : C ≤ 15) (H : wX_match_2_128 post k 1 f0 f1 f2 f3 f4 (nI C) f6 f7 a1 a2 a3 a4 (ft_w (fun _ => true) (fun _ => 0) a5 (C + 1)) (ft_w (fun _ => true) (fun _ => 0) a6 (C + 1)) a7 a8 a9 a10) : ∃ n, wX_match_2_98 post f0 f1 f2 f3 f4 (nI C) f6 f7 n 0 a1 a2 a3 a4 a5 a6 a7 a8 a9 a10 := by
  have q := pk_loop (σ := Unit) (fun n i _ => wX_match_2_98 post f0 f1 f2 f3 f4 (nI C) f6 f7 n (nI i) a1 a2 a3 a4 (ft_w (fun _ => true) (fun _ => 0) a5 i) (ft_w (fun _ => true) (fun _ => 0) a6 i) a7 a8 a9 a10) (fun _ _ => True) (C + 1) 0 () (by omega) trivial
    (fun n _ _ => pk_lt C (C + 1) (fun _ => ⟨k, H⟩) (fun z => absurd z (by omega)))
    (fun n i _ hi _ hw => pk_lt C i (fun z => absurd z (by omega)) (fun _ => ⟨pk_in i 24 (by omega), nm_r (by rw [nI_clamp (by omega)]; exact ft_w_t rfl rfl) ⟨pk_in i 24 (by omega), nm_r (by rw [nI_clamp (by omega)]; exact ft_w_t rfl rfl) (nm_r (nI_1 i) (hw () trivial))⟩⟩))
  rw [ft_w_0, ft_w_0] at q
  exact q
theorem ft_m75b {post : Int32 → St2 → Prop} {f0 f1 f2 f3 f5 f6 f7 : Int32} {a1 a2 a3 a4 a5 a6 a7 a8 a9 a10 : Nat → Int32} {R : Nat} (hR : R ≤ 5) (H : ∃ n, wX_match_2_98 post f0 f1 f2 f3 (nI R) f5 f6 f7 n 0 a1 a2 a3 (ft_w (fun _ => true) (fun _ => 0) a4 (R + 1)) a5 a6 a7 a8 a9 a10) : ∃ n, wX_match_2_75 post f0 f1 f2 f3 (nI R) f5 f6 f7 n 0 a1 a2 a3 a4 a5 a6 a7 a8 a9 a10 := by
  have q := pk_loop (σ := Unit) (fun n i _ => wX_match_2_75 post f0 f1 f2 f3 (nI R) f5 f6 f7 n (nI i) a1 a2 a3 (ft_w (fun _ => true) (fun _ => 0) a4 i) a5 a6 a7 a8 a9 a10) (fun _ _ => True) (R + 1) 0 () (by omega) trivial
    (fun n _ _ => pk_lt R (R + 1) (fun _ => H) (fun z => absurd z (by omega)))
    (fun n i _ hi _ hw => pk_lt R i (fun z => absurd z (by omega)) (fun _ => ⟨pk_in i 6 (by omega), nm_r (by rw [nI_clamp (by omega)]; exact ft_w_t rfl rfl) (nm_r (nI_1 i) (hw () trivial))⟩))
  rw [ft_w_0] at q
  exact q
/-- both jobs in the set: row 1 is job 0, row 2 is job 1 -/
theorem ft_m33_3b {post : Int32 → St2 → Prop} {f0 f1 f2 f3 f5 f6 f7 : Int32} {a1 a2 a3 a4 a5 a6 a7 a8 a9 a10 : Nat → Int32} (H : ∀ b3 : Nat → Int32, b3 1 = nI 0 → b3 2 = nI 1 → ∃ n, wX_match_2_75 post f0 f1 f2 f3 (nI 2) f5 f6 f7 n 0 a1 a2 b3 a4 a5 a6 a7 a8 a9 a10) : ∃ n, wX_match_2_33 post 3 f0 f1 f2 f3 f5 f6 f7 n 0 0 a1 a2 a3 a4 a5 a6 a7 a8 a9 a10 := by
  refine ⟨6, br_f (by decide) (br_f (by decide) (nm_r (e' := (1 : Int32)) (by decide) ⟨pk_in 1 6 (by omega), nm_r (e' := upd a3 1 0) (by rfl) (nm_r (e' := (1 : Int32)) (by decide) ?_)⟩))⟩
  refine br_f (by decide) (br_f (by decide) (nm_r (e' := (2 : Int32)) (by decide) ⟨pk_in 2 6 (by omega), nm_r (e' := upd (upd a3 1 0) 2 1) (by rfl) (nm_r (e' := (2 : Int32)) (by decide) ?_)⟩))
  refine br_f (by decide) (br_t (by decide) (nm_r (e' := (3 : Int32)) (by decide) ?_))
  refine br_f (by decide) (br_t (by decide) (nm_r (e' := (4 : Int32)) (by decide) ?_))
  refine br_f (by decide) (br_t (by decide) (nm_r (e' := (5 : Int32)) (by decide) ?_))
  exact br_t (by decide) (H _ rfl rfl)
/-- job 1 alone -/
theorem ft_m33_2b {post : Int32 → St2 → Prop} {f0 f1 f2 f3 f5 f6 f7 : Int32} {a1 a2 a3 a4 a5 a6 a7 a8 a9 a10 : Nat → Int32} (H : ∀ b3 : Nat → Int32, b3 1 = nI 1 → ∃ n, wX_match_2_75 post f0 f1 f2 f3 (nI 1) f5 f6 f7 n 0 a1 a2 b3 a4 a5 a6 a7 a8 a9 a10) : ∃ n, wX_match_2_33 post 2 f0 f1 f2 f3 f5 f6 f7 n 0 0 a1 a2 a3 a4 a5 a6 a7 a8 a9 a10 := by
  refine ⟨6, br_f (by decide) (br_t (by decide) (nm_r (e' := (1 : Int32)) (by decide) ?_))⟩
  refine br_f (by decide) (br_f (by decide) (nm_r (e' := (1 : Int32)) (by decide) ⟨pk_in 1 6 (by omega), nm_r (e' := upd a3 1 1) (by rfl) (nm_r (e' := (2 : Int32)) (by decide) ?_)⟩))
  refine br_f (by decide) (br_t (by decide) (nm_r (e' := (3 : Int32)) (by decide) ?_))
  refine br_f (by decide) (br_t (by decide) (nm_r (e' := (4 : Int32)) (by decide) ?_))
  refine br_f (by decide) (br_t (by decide) (nm_r (e' := (5 : Int32)) (by decide) ?_))
  exact br_t (by decide) (H _ rfl)
theorem ft_rows2b {post : Int32 → St2 → Prop} {f0 f1 f2 f3 f6 f7 : Int32} {a1 a2 a3 a4 a5 a6 a7 a8 a9 a10 : Nat → Int32} {C : Nat} {K1 K2 : Nat → Nat} (hC1 : 2 ≤ C) (hC : C ≤ 15) (hK1 : ∀ c, K1 c ≤ 100000) (hK2 : ∀ c, K2 c ≤ 100000) (h41 : a4 1 = 0) (h42 : a4 2 = 0) (h5 : ∀ c, 1 ≤ c → c ≤ C → a5 c = 0) (h6 : ∀ c, 1 ≤ c → c ≤ C → a6 c = 0) (hc1 : ft_CO f0 f1 f2 f3 (nI 2) f6 f7 a1 a2 a3 a10 C 1 K1) (hc2 : ft_CO f0 f1 f2 f3 (nI 2) f6 f7 a1 a2 a3 a10 C 2 K2)
    (H : ∀ (p q : Nat) (b4 b5 b6 b7 b8 b9 : Nat → Int32), 1 ≤ p → p ≤ C → 1 ≤ q → q ≤ C → p ≠ q → (∀ c d, 1 ≤ c → c ≤ C → 1 ≤ d → d ≤ C → c ≠ d → K1 p + K2 q ≤ K1 c + K2 d) → post (nI (K1 p + K2 q)) (f0, f1, f2, f3, nI 2, nI C, f6, f7, a1, a2, a3, b4, b5, b6, b7, b8, b9, a10)) :
    wX_match_2_128 post 3 1 f0 f1 f2 f3 (nI 2) (nI C) f6 f7 a1 a2 a3 a4 a5 a6 a7 a8 a9 a10 := by
  refine br_f (by decide) (ft_ins1b (r := 1) (K := K1) (by omega) hC (by omega) hK1 h41 h5 h6 hc1 (fun n b5 b6 b7 b8 b9 n1 n2 nm q5 q6 q6' => nm_r (e' := (2 : Int32)) (by decide) (br_f (by decide) (ft_ins2b (n1 := n) (K1 := K1) (K2 := K2) hC1 hC hK1 hK2 n1 n2 nm pk_us ((pk_un (by decide)).trans h42) q5 q6 q6' hc1 hc2 (fun p q c4 c5 c6 c7 c8 c9 p1 p2 q1 q2 pq ho s1 s2 s3 => nm_r (e' := (3 : Int32)) (by decide) (br_t (by decide) ?_))))))
  have e : ft_sum (fun c => if c = p then K1 p else if c = q then K2 q else 0) (C + 1) = K1 p + K2 q := by
    rw [ft_sum2 pq (fun c h1 h2 => by rw [if_neg h1, if_neg h2]), if_pos (show p < C + 1 by omega), if_pos (show q < C + 1 by omega), if_pos rfl, if_neg (show ¬ q = p from fun z => pq z.symm), if_pos rfl]
  refine ft_s151b (g := fun c => if c = p then K1 p else if c = q then K2 q else 0) hC ((if_neg (by omega)).trans (if_neg (by omega))) (fun c h1 h2 => ?_) (by rw [e]; exact H p q c4 c5 c6 c7 c8 c9 p1 p2 q1 q2 pq ho)
  by_cases z : c = p
  · refine Or.inr ⟨1, by omega, by omega, by rw [z]; exact s1, fun ψ h => ?_⟩
    refine hc1 _ _ _ _ _ _ c h1 h2 ψ ?_
    rw [if_pos z] at h
    rw [z]
    exact h
  · by_cases z2 : c = q
    · refine Or.inr ⟨2, by omega, by omega, by rw [z2]; exact s2, fun ψ h => ?_⟩
      refine hc2 _ _ _ _ _ _ c h1 h2 ψ ?_
      rw [if_neg z, if_pos z2] at h
      rw [z2]
      exact h
    · exact Or.inl ⟨s3 c h1 h2 z z2, by rw [if_neg z, if_neg z2]⟩
theorem ft_rows1b {post : Int32 → St2 → Prop} {f0 f1 f2 f3 f6 f7 : Int32} {a1 a2 a3 a4 a5 a6 a7 a8 a9 a10 : Nat → Int32} {C : Nat} {K : Nat → Nat} (hC1 : 2 ≤ C) (hC : C ≤ 15) (hK : ∀ c, K c ≤ 100000) (h41 : a4 1 = 0) (h5 : ∀ c, 1 ≤ c → c ≤ C → a5 c = 0) (h6 : ∀ c, 1 ≤ c → c ≤ C → a6 c = 0) (hc1 : ft_CO f0 f1 f2 f3 (nI 1) f6 f7 a1 a2 a3 a10 C 1 K)
    (H : ∀ (p : Nat) (b4 b5 b6 b7 b8 b9 : Nat → Int32), 1 ≤ p → p ≤ C → (∀ c, 1 ≤ c → c ≤ C → K p ≤ K c) → post (nI (K p)) (f0, f1, f2, f3, nI 1, nI C, f6, f7, a1, a2, a3, b4, b5, b6, b7, b8, b9, a10)) :
    wX_match_2_128 post 2 1 f0 f1 f2 f3 (nI 1) (nI C) f6 f7 a1 a2 a3 a4 a5 a6 a7 a8 a9 a10 := by
  refine br_f (by decide) (ft_ins1b (r := 1) (K := K) (by omega) hC (by omega) hK h41 h5 h6 hc1 (fun n b5 b6 b7 b8 b9 n1 n2 nm q5 q6 q6' => nm_r (e' := (2 : Int32)) (by decide) (br_t (by decide) ?_)))
  have e : ft_sum (fun c => if c = n then K n else 0) (C + 1) = K n := by
    rw [ft_sum1 (p := n) (fun c h1 => by rw [if_neg h1]), if_pos (by omega), if_pos rfl]
  refine ft_s151b (g := fun c => if c = n then K n else 0) hC (if_neg (by omega)) (fun c h1 h2 => ?_) (by rw [e]; exact H n (upd a4 1 (nI (K n))) b5 b6 b7 b8 b9 n1 n2 nm)
  by_cases z : c = n
  · refine Or.inr ⟨1, by omega, by omega, by rw [z]; exact q6, fun ψ h => ?_⟩
    refine hc1 _ _ _ _ _ _ c h1 h2 ψ ?_
    rw [if_pos z] at h
    rw [z]
    exact h
  · exact Or.inl ⟨q6' c h1 h2 z, by rw [if_neg z]⟩
theorem ft_match2b {post : Int32 → St2 → Prop} {f1 f4 f5 f6 f7 : Int32} {a1 a2 a3 a4 a5 a6 a7 a8 a9 a10 : Nat → Int32} {t : Nat → Nat → Nat} {w : Nat → Nat} {D : Int32} {C : Nat} (hk : ft_ok t w a1 a2) (hD : ft_dc D C)
    (H : ∀ (S : Nat) (g4 g5 : Int32) (b3 b4 b5 b6 b7 b8 b9 : Nat → Int32), ft_min2 t w C S → post (nI S) (2, f1, D, (-1), g4, g5, f6, f7, a1, a2, b3, b4, b5, b6, b7, b8, b9, a10)) :
    wpX_match_2 post (2, f1, D, (-1), f4, f5, f6, f7, a1, a2, a3, a4, a5, a6, a7, a8, a9, a10) 3 := by
  have hw : ∃ n, wX_match_2_33 post 3 2 f1 D (-1) (nI C) f6 f7 n 0 0 a1 a2 a3 a4 a5 a6 a7 a8 a9 a10 := by
    have hC := ft_dcC hD
    have hC2 : 2 ≤ C := by rcases hD with h | h <;> omega
    refine ft_m33_3b (fun b3 y1 y2 => ft_m75b (by omega) (ft_m98b (k := 3) hC.2 (ft_rows2b (K1 := ft_K t w 0) (K2 := ft_K t w 1) hC2 hC.2 (ft_K_le hk (by omega)) (ft_K_le hk (by omega)) (ft_w_in (by omega) rfl) (ft_w_in (by omega) rfl) (fun c h1 h2 => ft_w_in (by omega) rfl) (fun c h1 h2 => ft_w_in (by omega) rfl) (ft_co hk hD (by omega) y1 (by omega)) (ft_co hk hD (by omega) y2 (by omega)) (fun p q b4 b5 b6 b7 b8 b9 p1 p2 q1 q2 pq ho => H _ _ _ _ _ _ _ _ _ _ ⟨⟨p, q, p1, p2, q1, q2, pq, rfl⟩, ho⟩))))
  rcases hD with ⟨h1, h2⟩ | ⟨h1, h2⟩
  · rw [h1, h2] at hw
    rw [h1]
    exact br_t (by decide) (nm_r (e' := nI 10) (by decide) hw)
  · rw [h1, h2] at hw
    rw [h1]
    exact br_f (by decide) (nm_r (e' := nI 15) (by decide) hw)
theorem ft_match1b {post : Int32 → St2 → Prop} {f1 f4 f5 f6 f7 : Int32} {a1 a2 a3 a4 a5 a6 a7 a8 a9 a10 : Nat → Int32} {t : Nat → Nat → Nat} {w : Nat → Nat} {D : Int32} {C : Nat} (hk : ft_ok t w a1 a2) (hD : ft_dc D C)
    (H : ∀ (S : Nat) (g4 g5 : Int32) (b3 b4 b5 b6 b7 b8 b9 : Nat → Int32), ft_min1 t w C S → post (nI S) (2, f1, D, (-1), g4, g5, f6, f7, a1, a2, b3, b4, b5, b6, b7, b8, b9, a10)) :
    wpX_match_2 post (2, f1, D, (-1), f4, f5, f6, f7, a1, a2, a3, a4, a5, a6, a7, a8, a9, a10) 2 := by
  have hw : ∃ n, wX_match_2_33 post 2 2 f1 D (-1) (nI C) f6 f7 n 0 0 a1 a2 a3 a4 a5 a6 a7 a8 a9 a10 := by
    have hC := ft_dcC hD
    have hC2 : 2 ≤ C := by rcases hD with h | h <;> omega
    refine ft_m33_2b (fun b3 y1 => ft_m75b (by omega) (ft_m98b (k := 2) hC.2 (ft_rows1b (K := ft_K t w 1) hC2 hC.2 (ft_K_le hk (by omega)) (ft_w_in (by omega) rfl) (fun c h1 h2 => ft_w_in (by omega) rfl) (fun c h1 h2 => ft_w_in (by omega) rfl) (ft_co hk hD (by omega) y1 (by omega)) (fun p b4 b5 b6 b7 b8 b9 p1 p2 ho => H _ _ _ _ _ _ _ _ _ _ ⟨⟨p, p1, p2, rfl⟩, ho⟩))))
  rcases hD with ⟨h1, h2⟩ | ⟨h1, h2⟩
  · rw [h1, h2] at hw
    rw [h1]
    exact br_t (by decide) (nm_r (e' := nI 10) (by decide) hw)
  · rw [h1, h2] at hw
    rw [h1]
    exact br_f (by decide) (nm_r (e' := nI 15) (by decide) hw)
theorem ft_tot2b {post : Int32 → St2 → Prop} {f1 f4 f5 f6 f7 : Int32} {a1 a2 a3 a4 a5 a6 a7 a8 a9 a10 : Nat → Int32} {t : Nat → Nat → Nat} {w : Nat → Nat} {D : Int32} {C T : Nat} (hk : ft_ok t w a1 a2) (hD : ft_dc D C) (hT : ∀ S, ft_min2 t w C S → S = 8 * T) (hT2 : T < 10000)
    (H : ∀ (g4 g5 : Int32) (b3 b4 b5 b6 b7 b8 b9 : Nat → Int32), post (nI T) (2, f1, D, (-1), g4, g5, f6, f7, a1, a2, b3, b4, b5, b6, b7, b8, b9, a10)) :
    wpX_totalOf_2 post (2, f1, D, (-1), f4, f5, f6, f7, a1, a2, a3, a4, a5, a6, a7, a8, a9, a10) 3 := by
  refine ft_match2b (f4 := f4) (f5 := f5) hk hD (fun S g4 g5 b3 b4 b5 b6 b7 b8 b9 hS => ?_)
  rw [hT S hS]
  refine br_t (nI_lt (b := 100000) (by omega) (by decide)) ?_
  rw [show (7 : Int32) = nI 7 from rfl, nI_add, pk_shrN (by omega) _ 3 (by decide), show (8 * T + 7) / 2 ^ 3 = T by omega]
  exact H g4 g5 b3 b4 b5 b6 b7 b8 b9
theorem ft_tot1b {post : Int32 → St2 → Prop} {f1 f4 f5 f6 f7 : Int32} {a1 a2 a3 a4 a5 a6 a7 a8 a9 a10 : Nat → Int32} {t : Nat → Nat → Nat} {w : Nat → Nat} {D : Int32} {C T : Nat} (hk : ft_ok t w a1 a2) (hD : ft_dc D C) (hT : ∀ S, ft_min1 t w C S → S = 8 * T) (hT2 : T < 10000)
    (H : ∀ (g4 g5 : Int32) (b3 b4 b5 b6 b7 b8 b9 : Nat → Int32), post (nI T) (2, f1, D, (-1), g4, g5, f6, f7, a1, a2, b3, b4, b5, b6, b7, b8, b9, a10)) :
    wpX_totalOf_2 post (2, f1, D, (-1), f4, f5, f6, f7, a1, a2, a3, a4, a5, a6, a7, a8, a9, a10) 2 := by
  refine ft_match1b (f4 := f4) (f5 := f5) hk hD (fun S g4 g5 b3 b4 b5 b6 b7 b8 b9 hS => ?_)
  rw [hT S hS]
  refine br_t (nI_lt (b := 100000) (by omega) (by decide)) ?_
  rw [show (7 : Int32) = nI 7 from rfl, nI_add, pk_shrN (by omega) _ 3 (by decide), show (8 * T + 7) / 2 ^ 3 = T by omega]
  exact H g4 g5 b3 b4 b5 b6 b7 b8 b9
end
section
/-- the times of the two jobs -/
def ft_t (a b c d j m : Nat) : Nat := if j = 0 then (if m = 0 then a else b) else (if m = 0 then c else d)
/-- the masks of the two jobs -/
def ft_wm (x y j : Nat) : Nat := if j = 0 then x else y
theorem ft_pl1 (k a : Nat) (h : 1 ≤ k) : 8 * a ≤ 8 * k * a := Nat.mul_le_mul_right a (by omega)
theorem ft_pl2 (k a : Nat) (h : 2 ≤ k) : 16 * a ≤ 8 * k * a := Nat.mul_le_mul_right a (by omega)
/-- what the cost of a job at a column is at least: nothing is cheaper than place 1, and past it nothing cheaper than twice that -/
theorem ft_Kc {a b c d x y j p : Nat} : (ft_wm x y j / 2 ^ ft_m p % 2 = 0 ∧ ft_K (ft_t a b c d) (ft_wm x y) j p = 100000) ∨ (ft_wm x y j / 2 ^ ft_m p % 2 = 1 ∧ 8 * ft_t a b c d j (ft_m p) ≤ ft_K (ft_t a b c d) (ft_wm x y) j p ∧ ((p - 1) % 5 ≠ 0 → 16 * ft_t a b c d j (ft_m p) ≤ ft_K (ft_t a b c d) (ft_wm x y) j p)) := by
  unfold ft_K
  by_cases h : ft_wm x y j / 2 ^ ft_m p % 2 = 0
  · exact Or.inl ⟨h, if_pos h⟩
  · rw [if_neg h]
    exact Or.inr ⟨by omega, ft_pl1 _ _ (by omega), fun z => ft_pl2 _ _ (by omega)⟩
theorem ft_Ko {a b c d x y j p m k : Nat} (hm : ft_m p = m) (hk : 8 * ((p - 1) % 5 + 1) = k) (h : ft_wm x y j / 2 ^ m % 2 = 1) : ft_K (ft_t a b c d) (ft_wm x y) j p = k * ft_t a b c d j m := by
  unfold ft_K
  rw [hm, if_neg (by omega), hk]
/-- below: what two jobs at different columns cost at least -/
theorem ft_low {a b c d x y C p q : Nat} (hC : C = 10 ∨ C = 15) (p1 : 1 ≤ p) (p2 : p ≤ C) (q1 : 1 ≤ q) (q2 : q ≤ C) (pq : p ≠ q) :
    100000 ≤ ft_K (ft_t a b c d) (ft_wm x y) 0 p + ft_K (ft_t a b c d) (ft_wm x y) 1 q
    ∨ (x % 2 = 1 ∧ y % 2 = 1 ∧ (C = 10 → 8 * (a + c + min a c) ≤ ft_K (ft_t a b c d) (ft_wm x y) 0 p + ft_K (ft_t a b c d) (ft_wm x y) 1 q) ∧ 8 * (a + c) ≤ ft_K (ft_t a b c d) (ft_wm x y) 0 p + ft_K (ft_t a b c d) (ft_wm x y) 1 q)
    ∨ (x % 2 = 1 ∧ y / 2 % 2 = 1 ∧ 8 * (a + d) ≤ ft_K (ft_t a b c d) (ft_wm x y) 0 p + ft_K (ft_t a b c d) (ft_wm x y) 1 q)
    ∨ (x / 2 % 2 = 1 ∧ y % 2 = 1 ∧ 8 * (b + c) ≤ ft_K (ft_t a b c d) (ft_wm x y) 0 p + ft_K (ft_t a b c d) (ft_wm x y) 1 q)
    ∨ (x / 2 % 2 = 1 ∧ y / 2 % 2 = 1 ∧ 8 * (b + d + min b d) ≤ ft_K (ft_t a b c d) (ft_wm x y) 0 p + ft_K (ft_t a b c d) (ft_wm x y) 1 q) := by
  have kp := ft_Kc (a := a) (b := b) (c := c) (d := d) (x := x) (y := y) (j := 0) (p := p)
  have kq := ft_Kc (a := a) (b := b) (c := c) (d := d) (x := x) (y := y) (j := 1) (p := q)
  generalize ft_K (ft_t a b c d) (ft_wm x y) 0 p = kP at *
  generalize ft_K (ft_t a b c d) (ft_wm x y) 1 q = kQ at *
  rw [show ft_wm x y 0 = x from rfl] at kp
  rw [show ft_wm x y 1 = y from rfl] at kq
  have mp : (ft_m p = 0 ∧ (p ≤ 5 ∨ 11 ≤ p)) ∨ (ft_m p = 1 ∧ 6 ≤ p ∧ p ≤ 10) := by
    unfold ft_m
    split
    · omega
    · omega
  have mq : (ft_m q = 0 ∧ (q ≤ 5 ∨ 11 ≤ q)) ∨ (ft_m q = 1 ∧ 6 ≤ q ∧ q ≤ 10) := by
    unfold ft_m
    split
    · omega
    · omega
  rcases mp with ⟨ep, hp⟩ | ⟨ep, hp⟩
  · rw [ep, show ft_t a b c d 0 0 = a from rfl, show x / 2 ^ 0 = x from Nat.div_one x] at kp
    rcases mq with ⟨eq, hq⟩ | ⟨eq, hq⟩
    · rw [eq, show ft_t a b c d 1 0 = c from rfl, show y / 2 ^ 0 = y from Nat.div_one y] at kq
      omega
    · rw [eq, show ft_t a b c d 1 1 = d from rfl, show y / 2 ^ 1 = y / 2 from rfl] at kq
      omega
  · rw [ep, show ft_t a b c d 0 1 = b from rfl, show x / 2 ^ 1 = x / 2 from rfl] at kp
    rcases mq with ⟨eq, hq⟩ | ⟨eq, hq⟩
    · rw [eq, show ft_t a b c d 1 0 = c from rfl, show y / 2 ^ 0 = y from Nat.div_one y] at kq
      omega
    · rw [eq, show ft_t a b c d 1 1 = d from rfl, show y / 2 ^ 1 = y / 2 from rfl] at kq
      omega
/-- above: each pair of open machines can be had at its price -/
theorem ft_up {a b c d x y C S : Nat} (hC : C = 10 ∨ C = 15) (h : ∀ p q, 1 ≤ p → p ≤ C → 1 ≤ q → q ≤ C → p ≠ q → S ≤ ft_K (ft_t a b c d) (ft_wm x y) 0 p + ft_K (ft_t a b c d) (ft_wm x y) 1 q) :
    (x % 2 = 1 → y % 2 = 1 → S ≤ 8 * (a + c + min a c) ∧ (C = 15 → S ≤ 8 * (a + c))) ∧ (x % 2 = 1 → y / 2 % 2 = 1 → S ≤ 8 * (a + d)) ∧ (x / 2 % 2 = 1 → y % 2 = 1 → S ≤ 8 * (b + c)) ∧ (x / 2 % 2 = 1 → y / 2 % 2 = 1 → S ≤ 8 * (b + d + min b d)) := by
  have X0 : ∀ {p k : Nat}, ft_m p = 0 → 8 * ((p - 1) % 5 + 1) = k → x % 2 = 1 → ft_K (ft_t a b c d) (ft_wm x y) 0 p = k * a := fun h1 h2 h3 => ft_Ko h1 h2 (by show x / 1 % 2 = 1; omega)
  have X1 : ∀ {p k : Nat}, ft_m p = 1 → 8 * ((p - 1) % 5 + 1) = k → x / 2 % 2 = 1 → ft_K (ft_t a b c d) (ft_wm x y) 0 p = k * b := fun h1 h2 h3 => ft_Ko h1 h2 h3
  have Y0 : ∀ {p k : Nat}, ft_m p = 0 → 8 * ((p - 1) % 5 + 1) = k → y % 2 = 1 → ft_K (ft_t a b c d) (ft_wm x y) 1 p = k * c := fun h1 h2 h3 => ft_Ko h1 h2 (by show y / 1 % 2 = 1; omega)
  have Y1 : ∀ {p k : Nat}, ft_m p = 1 → 8 * ((p - 1) % 5 + 1) = k → y / 2 % 2 = 1 → ft_K (ft_t a b c d) (ft_wm x y) 1 p = k * d := fun h1 h2 h3 => ft_Ko h1 h2 h3
  refine ⟨fun hx hy => ?_, fun hx hy => ?_, fun hx hy => ?_, fun hx hy => ?_⟩
  · have h1 := h 2 1 (by omega) (by omega) (by omega) (by omega) (by omega)
    have h2 := h 1 2 (by omega) (by omega) (by omega) (by omega) (by omega)
    rw [X0 (k := 16) (by rfl) (by rfl) hx, Y0 (k := 8) (by rfl) (by rfl) hy] at h1
    rw [X0 (k := 8) (by rfl) (by rfl) hx, Y0 (k := 16) (by rfl) (by rfl) hy] at h2
    refine ⟨by omega, fun e => ?_⟩
    have h3 := h 1 11 (by omega) (by omega) (by omega) (by omega) (by omega)
    rw [X0 (k := 8) (by rfl) (by rfl) hx, Y0 (k := 8) (by rfl) (by rfl) hy] at h3
    omega
  · have h1 := h 1 6 (by omega) (by omega) (by omega) (by omega) (by omega)
    rw [X0 (k := 8) (by rfl) (by rfl) hx, Y1 (k := 8) (by rfl) (by rfl) hy] at h1
    omega
  · have h1 := h 6 1 (by omega) (by omega) (by omega) (by omega) (by omega)
    rw [X1 (k := 8) (by rfl) (by rfl) hx, Y0 (k := 8) (by rfl) (by rfl) hy] at h1
    omega
  · have h1 := h 7 6 (by omega) (by omega) (by omega) (by omega) (by omega)
    have h2 := h 6 7 (by omega) (by omega) (by omega) (by omega) (by omega)
    rw [X1 (k := 16) (by rfl) (by rfl) hx, Y1 (k := 8) (by rfl) (by rfl) hy] at h1
    rw [X1 (k := 8) (by rfl) (by rfl) hx, Y1 (k := 16) (by rfl) (by rfl) hy] at h2
    omega
/-- the times are times -/
def ft_ti (a b c d : Nat) : Prop := 1 ≤ a ∧ a ≤ 15 ∧ 1 ≤ b ∧ b ≤ 15 ∧ 1 ≤ c ∧ c ≤ 15 ∧ 1 ≤ d ∧ d ≤ 15
theorem ft_two {a b c d x y C S : Nat} (hC : C = 10 ∨ C = 15) (h : ft_min2 (ft_t a b c d) (ft_wm x y) C S) :
    (100000 ≤ S ∨ (x % 2 = 1 ∧ y % 2 = 1 ∧ (C = 10 → 8 * (a + c + min a c) ≤ S) ∧ 8 * (a + c) ≤ S) ∨ (x % 2 = 1 ∧ y / 2 % 2 = 1 ∧ 8 * (a + d) ≤ S) ∨ (x / 2 % 2 = 1 ∧ y % 2 = 1 ∧ 8 * (b + c) ≤ S) ∨ (x / 2 % 2 = 1 ∧ y / 2 % 2 = 1 ∧ 8 * (b + d + min b d) ≤ S))
    ∧ (x % 2 = 1 → y % 2 = 1 → S ≤ 8 * (a + c + min a c) ∧ (C = 15 → S ≤ 8 * (a + c))) ∧ (x % 2 = 1 → y / 2 % 2 = 1 → S ≤ 8 * (a + d)) ∧ (x / 2 % 2 = 1 → y % 2 = 1 → S ≤ 8 * (b + c)) ∧ (x / 2 % 2 = 1 → y / 2 % 2 = 1 → S ≤ 8 * (b + d + min b d)) := by
  refine ⟨?_, ft_up hC h.2⟩
  obtain ⟨⟨p, q, p1, p2, q1, q2, pq, e⟩, _⟩ := h
  rw [e]
  exact ft_low hC p1 p2 q1 q2 pq
/-- the answers, by the masks -/
theorem ft_S33 {a b c d S : Nat} (ht : ft_ti a b c d) (h : ft_min2 (ft_t a b c d) (ft_wm 3 3) 10 S) : S = 8 * min (min (a + c + min a c) (a + d)) (min (b + c) (b + d + min b d)) := by
  have g := ft_two (Or.inl rfl) h
  unfold ft_ti at ht
  omega
theorem ft_S13 {a b c d S : Nat} (ht : ft_ti a b c d) (h : ft_min2 (ft_t a b c d) (ft_wm 1 3) 10 S) : S = 8 * min (a + c + min a c) (a + d) := by
  have g := ft_two (Or.inl rfl) h
  unfold ft_ti at ht
  omega
theorem ft_S23 {a b c d S : Nat} (ht : ft_ti a b c d) (h : ft_min2 (ft_t a b c d) (ft_wm 2 3) 10 S) : S = 8 * min (b + c) (b + d + min b d) := by
  have g := ft_two (Or.inl rfl) h
  unfold ft_ti at ht
  omega
theorem ft_S11 {a b c d S : Nat} (ht : ft_ti a b c d) (h : ft_min2 (ft_t a b c d) (ft_wm 1 1) 10 S) : S = 8 * (a + c + min a c) := by
  have g := ft_two (Or.inl rfl) h
  unfold ft_ti at ht
  omega
theorem ft_S12 {a b c d S : Nat} (ht : ft_ti a b c d) (h : ft_min2 (ft_t a b c d) (ft_wm 1 2) 10 S) : S = 8 * (a + d) := by
  have g := ft_two (Or.inl rfl) h
  unfold ft_ti at ht
  omega
theorem ft_S21 {a b c d S : Nat} (ht : ft_ti a b c d) (h : ft_min2 (ft_t a b c d) (ft_wm 2 1) 10 S) : S = 8 * (b + c) := by
  have g := ft_two (Or.inl rfl) h
  unfold ft_ti at ht
  omega
theorem ft_S22 {a b c d S : Nat} (ht : ft_ti a b c d) (h : ft_min2 (ft_t a b c d) (ft_wm 2 2) 10 S) : S = 8 * (b + d + min b d) := by
  have g := ft_two (Or.inl rfl) h
  unfold ft_ti at ht
  omega
theorem ft_SD {a b c d S : Nat} (ht : ft_ti a b c d) (h : ft_min2 (ft_t a b c d) (ft_wm 3 3) 15 S) : S = 8 * min (a + c) (min (min (a + c + min a c) (a + d)) (min (b + c) (b + d + min b d))) := by
  have g := ft_two (Or.inr rfl) h
  unfold ft_ti at ht
  omega
theorem ft_S1 {a b c d S : Nat} (ht : ft_ti a b c d) (h : ft_min1 (ft_t a b c d) (ft_wm 3 3) 10 S) : S = 8 * min c d := by
  obtain ⟨⟨p, p1, p2, e⟩, h2⟩ := h
  have u1 := h2 1 (by omega) (by omega)
  have u2 := h2 6 (by omega) (by omega)
  rw [ft_Ko (m := 0) (k := 8) (by rfl) (by rfl) (by rfl), show ft_t a b c d 1 0 = c from rfl] at u1
  rw [ft_Ko (m := 1) (k := 8) (by rfl) (by rfl) (by rfl), show ft_t a b c d 1 1 = d from rfl] at u2
  have kq := ft_Kc (a := a) (b := b) (c := c) (d := d) (x := 3) (y := 3) (j := 1) (p := p)
  rw [← e, show ft_wm 3 3 1 = 3 from rfl] at kq
  have hm := ft_m2 p
  unfold ft_ti at ht
  have mp : ft_m p = 0 ∨ ft_m p = 1 := by omega
  rcases mp with z | z
  · rw [z, show ft_t a b c d 1 0 = c from rfl] at kq
    omega
  · rw [z, show ft_t a b c d 1 1 = d from rfl] at kq
    omega
theorem ft_ok2 {a b c d x y : Nat} {a1 a2 : Nat → Int32} (ht : ft_ti a b c d) (h0 : a1 0 = nI a) (h1 : a1 1 = nI b) (h3 : a1 3 = nI c) (h4 : a1 4 = nI d) (hx : a2 0 = nI x) (hx4 : x < 4) (hy : a2 1 = nI y) (hy4 : y < 4) : ft_ok (ft_t a b c d) (ft_wm x y) a1 a2 := by
  unfold ft_ti at ht
  refine ⟨fun j m hj hm => ?_, fun j hj => ?_⟩
  · rcases (show j = 0 ∨ j = 1 by omega) with rfl | rfl
    · rcases (show m = 0 ∨ m = 1 by omega) with rfl | rfl
      · exact ⟨h0, by show a ≤ 15; omega⟩
      · exact ⟨h1, by show b ≤ 15; omega⟩
    · rcases (show m = 0 ∨ m = 1 by omega) with rfl | rfl
      · exact ⟨h3, by show c ≤ 15; omega⟩
      · exact ⟨h4, by show d ≤ 15; omega⟩
  · rcases (show j = 0 ∨ j = 1 by omega) with rfl | rfl
    · exact ⟨hx, hx4⟩
    · exact ⟨hy, hy4⟩
end
section
/-- the array times holds the times of the two jobs -/
def ft_A (a b c d : Nat) (a1 : Nat → Int32) : Prop := a1 0 = nI a ∧ a1 1 = nI b ∧ a1 3 = nI c ∧ a1 4 = nI d
theorem ft_e0 (j : Nat) : nI j * 3 + 0 = nI (j * 3) := by
  rw [show (3 : Int32) = nI 3 from rfl, pk_mul, show (0 : Int32) = nI 0 from rfl, nI_add, Nat.add_zero]
theorem ft_e1 (j : Nat) : nI j * 3 + 1 = nI (j * 3 + 1) := by
  rw [show (3 : Int32) = nI 3 from rfl, pk_mul, show (1 : Int32) = nI 1 from rfl, nI_add]
theorem ft_able2 {post : Int32 → Prop} {f1 f2 f3 f4 f5 f6 f7 : Int32} {a1 a2 a3 a4 a5 a6 a7 a8 a9 a10 : Nat → Int32} {j x y : Nat} (hj : j < 2) (h0 : a1 (j * 3) = nI x) (hx : 1 ≤ x ∧ x ≤ 15) (h1 : a1 (j * 3 + 1) = nI y) (hy : 1 ≤ y ∧ y ≤ 15) (h : post 3) : wpX_able post (2, f1, f2, f3, f4, f5, f6, f7, a1, a2, a3, a4, a5, a6, a7, a8, a9, a10) (nI j) := by
  refine ⟨3, br_f (by decide) ?_⟩
  rw [ft_e0, nI_clamp (by omega), h0]
  refine ⟨pk_in (j * 3) 15 (by omega), br_f (nI_nle hx.1 (by omega)) (nm_r (e' := (1 : Int32)) (by decide) (nm_r (e' := (1 : Int32)) (by decide) (br_f (by decide) ?_)))⟩
  rw [ft_e1, nI_clamp (by omega), h1]
  exact ⟨pk_in (j * 3 + 1) 15 (by omega), br_f (nI_nle hy.1 (by omega)) (nm_r (e' := (3 : Int32)) (by decide) (nm_r (e' := (2 : Int32)) (by decide) (br_t (by decide) h)))⟩
theorem ft_ableA {post : Int32 → Prop} {f1 f2 f3 f4 f5 f6 f7 : Int32} {a1 a2 a3 a4 a5 a6 a7 a8 a9 a10 : Nat → Int32} {j : Nat} (hj : j < 5) (h : ∀ r, post r) : wpX_able post (2, f1, f2, f3, f4, f5, f6, f7, a1, a2, a3, a4, a5, a6, a7, a8, a9, a10) (nI j) := by
  have st : ∀ x2, wX_able_4 post (nI j) 2 f1 f2 f3 f4 f5 f6 f7 a1 a2 a3 a4 a5 a6 a7 a8 a9 a10 2 x2 1 := fun x2 => br_f (by decide) ⟨pk_in (j * 3 + 1) 15 (by omega) (ft_e1 j), br_c (fun _ => nm_r (e' := (2 : Int32)) (by decide) (br_t (by decide) (h _))) (fun _ => nm_e (nm_r (e' := (2 : Int32)) (by decide) (br_t (by decide) (h _))))⟩
  exact ⟨3, br_f (by decide) ⟨pk_in (j * 3) 15 (by omega) (ft_e0 j), br_c (fun _ => nm_r (e' := (1 : Int32)) (by decide) (st _)) (fun _ => nm_e (nm_r (e' := (1 : Int32)) (by decide) (st _)))⟩⟩
theorem ft_ask {post : St2 → Prop} {f1 f2 f3 f4 f5 f6 f7 : Int32} {a1 a2 a3 a4 a5 a6 a7 a8 a9 a10 : Nat → Int32} {a b c d : Nat} (ht : ft_ti a b c d) (hA : ft_A a b c d a1) (H : ∀ b2 : Nat → Int32, b2 0 = nI 3 → b2 1 = nI 3 → post (2, f1, (-1), (-1), f4, f5, f6, f7, a1, b2, a3, a4, a5, a6, a7, a8, a9, a10)) : wpX_askPlainly post (2, f1, f2, f3, f4, f5, f6, f7, a1, a2, a3, a4, a5, a6, a7, a8, a9, a10) := by
  unfold ft_ti at ht
  refine pk_loop (σ := Nat → Int32) (fun n i s => wX_askPlainly_2 post 2 f1 f2 f3 f4 f5 f6 f7 n (nI i) a1 s a3 a4 a5 a6 a7 a8 a9 a10) (fun i s => (0 < i → s 0 = nI 3) ∧ (1 < i → s 1 = nI 3)) 5 0 a2 (by omega) ⟨fun z => absurd z (by omega), fun z => absurd z (by omega)⟩
    (fun n s h => pk_le 5 5 (fun _ => H s (h.1 (by omega)) (h.2 (by omega))) (fun z => absurd z (by omega)))
    (fun n i s hi h hw => pk_le 5 i (fun z => absurd z (by omega)) (fun _ => ?_))
  by_cases z : i < 2
  · have x0 : ∃ x, a1 (i * 3) = nI x ∧ 1 ≤ x ∧ x ≤ 15 := by
      rcases (show i = 0 ∨ i = 1 by omega) with rfl | rfl
      · exact ⟨a, hA.1, by omega, by omega⟩
      · exact ⟨c, hA.2.2.1, by omega, by omega⟩
    have x1 : ∃ x, a1 (i * 3 + 1) = nI x ∧ 1 ≤ x ∧ x ≤ 15 := by
      rcases (show i = 0 ∨ i = 1 by omega) with rfl | rfl
      · exact ⟨b, hA.2.1, by omega, by omega⟩
      · exact ⟨d, hA.2.2.2, by omega, by omega⟩
    obtain ⟨x, hx, hx2⟩ := x0
    obtain ⟨y, hy, hy2⟩ := x1
    refine ft_able2 z hx hx2 hy hy2 ⟨pk_in i 5 hi, nm_r (e' := upd s i (nI 3)) (by rw [nI_clamp (by omega)]; rfl) (nm_r (nI_1 i) (hw _ ⟨fun g => ?_, fun g => ?_⟩))⟩
    · by_cases e : i = 0
      · rw [e]
        exact pk_us
      · rw [pk_un (by omega)]
        exact h.1 (by omega)
    · have e : i = 1 := by omega
      rw [e]
      exact pk_us
  · refine ft_ableA hi (fun r => ⟨pk_in i 5 hi, nm_r (e' := upd s i r.toInt8.toInt32) (by rw [nI_clamp (by omega)]) (nm_r (nI_1 i) (hw _ ⟨fun g => ?_, fun g => ?_⟩))⟩)
    · rw [pk_un (by omega)]
      exact h.1 (by omega)
    · rw [pk_un (by omega)]
      exact h.2 (by omega)
theorem ft_lwo {post : Int32 → St2 → Prop} {f2 f3 f4 f5 f6 f7 : Int32} {a1 a2 a3 a4 a5 a6 a7 a8 a9 a10 : Nat → Int32} {a b c d : Nat} (ht : ft_ti a b c d) (hA : ft_A a b c d a1) (H : ∀ (g2 g3 g4 g5 : Int32) (b2 b3 b4 b5 b6 b7 b8 b9 : Nat → Int32), post (nI (min c d)) (2, 3, g2, g3, g4, g5, f6, f7, a1, b2, b3, b4, b5, b6, b7, b8, b9, a10)) : wpX_leastWithout post (2, 3, f2, f3, f4, f5, f6, f7, a1, a2, a3, a4, a5, a6, a7, a8, a9, a10) 0 := by
  refine br_f (by decide) (br_f (by decide) (br_f (by decide) (br_f (by decide) (ft_ask ht hA (fun b2 q0 q1 => ?_)))))
  show wpX_totalOf _ _ ((3 : Int32) &&& (((1 : Int32) <<< ((0 : Int32) &&& 31)) ^^^ (-1)))
  rw [show ((3 : Int32) &&& (((1 : Int32) <<< ((0 : Int32) &&& 31)) ^^^ (-1))) = 2 by decide]
  exact ft_tot1 (T := min c d) (ft_ok2 ht hA.1 hA.2.1 hA.2.2.1 hA.2.2.2 q0 (by omega) q1 (by omega)) (Or.inl ⟨rfl, rfl⟩) (fun S h => ft_S1 ht h) (by unfold ft_ti at ht; omega) (fun g4 g5 b3 b4 b5 b6 b7 b8 b9 => H _ _ g4 g5 b2 b3 b4 b5 b6 b7 b8 b9)
theorem ft_lwi {post : Int32 → St2 → Prop} {f2 f3 f4 f5 f6 f7 : Int32} {a1 a2 a3 a4 a5 a6 a7 a8 a9 a10 : Nat → Int32} {a b c d : Nat} (ht : ft_ti a b c d) (hA : ft_A a b c d a1) (H : ∀ (g2 g3 g4 g5 : Int32) (b2 b3 b4 b5 b6 b7 b8 b9 : Nat → Int32), post (nI (min (a + c + min a c) (a + d))) (2, 3, g2, g3, g4, g5, f6, f7, a1, b2, b3, b4, b5, b6, b7, b8, b9, a10)) : wpX_leastWith post (2, 3, f2, f3, f4, f5, f6, f7, a1, a2, a3, a4, a5, a6, a7, a8, a9, a10) 0 0 := by
  refine br_f (by decide) (br_f (by decide) (br_f (by decide) (br_f (by decide) (br_f (by decide) (br_f (by decide) (br_f (by decide) ⟨pk_in 0 15 (by omega), br_f ?_ (ft_ask ht hA (fun b2 q0 q1 => ⟨pk_in 0 5 (by omega), nm_r (e' := upd b2 0 (nI 1)) (by rfl) ?_⟩))⟩))))))
  · rw [pk_cl 0, hA.1]
    exact nI_ne0 (by unfold ft_ti at ht; omega) (by unfold ft_ti at ht; omega)
  · exact ft_tot2 (T := min (a + c + min a c) (a + d)) (ft_ok2 (x := 1) (y := 3) ht hA.1 hA.2.1 hA.2.2.1 hA.2.2.2 pk_us (by omega) ((pk_un (by omega)).trans q1) (by omega)) (Or.inl ⟨rfl, rfl⟩) (fun S h => ft_S13 ht h) (by unfold ft_ti at ht; omega) (fun g4 g5 b3 b4 b5 b6 b7 b8 b9 => H _ _ g4 g5 _ b3 b4 b5 b6 b7 b8 b9)
theorem ft_lid {post : Int32 → St2 → Prop} {f2 f3 f4 f5 f6 f7 : Int32} {a1 a2 a3 a4 a5 a6 a7 a8 a9 a10 : Nat → Int32} {a b c d : Nat} (ht : ft_ti a b c d) (hA : ft_A a b c d a1) (H : ∀ (g2 g3 g4 g5 : Int32) (b2 b3 b4 b5 b6 b7 b8 b9 : Nat → Int32), post (nI (a + c + min a c)) (2, 3, g2, g3, g4, g5, f6, f7, a1, b2, b3, b4, b5, b6, b7, b8, b9, a10)) : wpX_leastIdle post (2, 3, f2, f3, f4, f5, f6, f7, a1, a2, a3, a4, a5, a6, a7, a8, a9, a10) 1 := by
  refine br_f (by decide) (br_f (by decide) (br_f (by decide) (ft_ask ht hA (fun b2 q0 q1 => ?_))))
  refine pk_loop (σ := Nat → Int32) (fun n i s => wX_leastIdle_16 post 1 2 3 (-1) (-1) f4 f5 f6 f7 n (nI i) a1 s a3 a4 a5 a6 a7 a8 a9 a10) (fun i s => s 0 = (if 0 < i then nI 1 else nI 3) ∧ s 1 = (if 1 < i then nI 1 else nI 3)) 5 0 b2 (by omega) ⟨q0, q1⟩
    (fun n s h => pk_le 5 5 (fun _ => ?_) (fun z => absurd z (by omega)))
    (fun n i s hi h hw => pk_le 5 i (fun z => absurd z (by omega)) (fun _ => ⟨pk_in i 5 hi, pk_in i 5 hi, nm_r (e' := upd s i ((s i &&& (((1 : Int32) <<< ((1 : Int32) &&& 31)) ^^^ (-1))).toInt8.toInt32)) (by rw [nI_clamp (by omega)]) (nm_r (nI_1 i) (hw _ ⟨?_, ?_⟩))⟩))
  · exact ft_tot2 (T := a + c + min a c) (ft_ok2 (x := 1) (y := 1) ht hA.1 hA.2.1 hA.2.2.1 hA.2.2.2 h.1 (by omega) h.2 (by omega)) (Or.inl ⟨rfl, rfl⟩) (fun S h => ft_S11 ht h) (by unfold ft_ti at ht; omega) (fun g4 g5 b3 b4 b5 b6 b7 b8 b9 => H _ _ g4 g5 _ b3 b4 b5 b6 b7 b8 b9)
  · rw [if_pos (by omega)]
    by_cases e : i = 0
    · rw [e, pk_us, h.1, e]
      decide
    · rw [pk_un (by omega), h.1, if_pos (by omega)]
  · by_cases e : i = 1
    · rw [e, pk_us, h.2, e]
      decide
    · rw [pk_un (by omega), h.2]
      by_cases z : 1 < i
      · rw [if_pos z, if_pos (by omega)]
      · rw [if_neg z, if_neg (by omega)]
theorem ft_ldo {post : Int32 → St2 → Prop} {f2 f3 f4 f5 f6 f7 : Int32} {a1 a2 a3 a4 a5 a6 a7 a8 a9 a10 : Nat → Int32} {a b c d : Nat} (ht : ft_ti a b c d) (hA : ft_A a b c d a1) (H : ∀ (g2 g3 g4 g5 : Int32) (b2 b3 b4 b5 b6 b7 b8 b9 : Nat → Int32), post (nI (min (a + c) (min (min (a + c + min a c) (a + d)) (min (b + c) (b + d + min b d))))) (2, 3, g2, g3, g4, g5, f6, f7, a1, b2, b3, b4, b5, b6, b7, b8, b9, a10)) : wpX_leastDoubled post (2, 3, f2, f3, f4, f5, f6, f7, a1, a2, a3, a4, a5, a6, a7, a8, a9, a10) 0 := by
  refine br_f (by decide) (br_f (by decide) (br_f (by decide) (ft_ask ht hA (fun b2 q0 q1 => ?_))))
  exact ft_tot2 (D := 0) (C := 15) (T := min (a + c) (min (min (a + c + min a c) (a + d)) (min (b + c) (b + d + min b d)))) (ft_ok2 ht hA.1 hA.2.1 hA.2.2.1 hA.2.2.2 q0 (by omega) q1 (by omega)) (Or.inr ⟨rfl, rfl⟩) (fun S h => ft_SD ht h) (by unfold ft_ti at ht; omega) (fun g4 g5 b3 b4 b5 b6 b7 b8 b9 => H _ _ g4 g5 b2 b3 b4 b5 b6 b7 b8 b9)
end
section
theorem ft_fm {post : Int32 → St2 → Prop} {f4 f5 f6 : Int32} {a1 a2 a3 a4 a5 a6 a7 a8 a9 a10 : Nat → Int32} {t : Nat → Nat → Nat} {w1 w2 : Nat → Nat} {j L T0 T1 : Nat} (hj : j < 5) (h3 : a2 j = nI 3) (hk1 : ft_ok t w1 a1 (upd a2 j (nI 1))) (hk2 : ft_ok t w2 a1 (upd (upd a2 j (nI 1)) j (nI 2))) (hT0 : ∀ S, ft_min2 t w1 10 S → S = 8 * T0) (hT1 : ∀ S, ft_min2 t w2 10 S → S = 8 * T1) (hB0 : T0 < 10000) (hB1 : T1 < 10000) (hBL : L < 10000) (hL : T0 = L ∨ T1 = L)
    (H : ∀ (m : Nat) (g4 g5 : Int32) (b2 b3 b4 b5 b6 b7 b8 b9 : Nat → Int32), ((m = 0 ∧ T0 = L) ∨ (m = 1 ∧ T0 ≠ L)) → (∀ i, i ≠ j → b2 i = a2 i) → post (nI m) (2, 3, (-1), (-1), g4, g5, f6, nI L, a1, b2, b3, b4, b5, b6, b7, b8, b9, a10)) :
    wpX_firstMachine post (2, 3, (-1), (-1), f4, f5, f6, nI L, a1, a2, a3, a4, a5, a6, a7, a8, a9, a10) (nI j) := by
  refine ⟨pk_in j 5 hj, nm_r (e' := nI 3) (by rw [nI_clamp (by omega)]; exact h3) ⟨2, br_f (by decide) (br_f (by decide) ⟨pk_in j 5 hj, nm_r (e' := upd a2 j (nI 1)) (by rw [nI_clamp (by omega)]; rfl) ?_⟩)⟩⟩
  refine ft_tot2b hk1 (Or.inl ⟨rfl, rfl⟩) hT0 hB0 (fun g4 g5 b3 b4 b5 b6 b7 b8 b9 => ?_)
  refine pk_eq T0 L (fun z => H 0 g4 g5 _ b3 b4 b5 b6 b7 b8 b9 (Or.inl ⟨rfl, z⟩) (fun i hi => pk_un hi)) (fun z => nm_r (e' := (1 : Int32)) (by decide) ?_)
  refine br_f (by decide) (br_f (by decide) ⟨pk_in j 5 hj, nm_r (e' := upd (upd a2 j (nI 1)) j (nI 2)) (by rw [nI_clamp (by omega)]; rfl) ?_⟩)
  refine ft_tot2b hk2 (Or.inl ⟨rfl, rfl⟩) hT1 hB1 (fun g4 g5 b3 b4 b5 b6 b7 b8 b9 => ?_)
  refine br_t ?_ (H 1 g4 g5 _ b3 b4 b5 b6 b7 b8 b9 (Or.inr ⟨rfl, z⟩) (fun i hi => (pk_un hi).trans (pk_un hi)))
  rcases hL with y | y
  · exact absurd y z
  · rw [y]
/-- one step of the loop in learn: job j gets its machine -/
theorem ft_le1 {post : St2 → Prop} {f4 f5 f6 : Int32} {a1 a2 a3 a4 a5 a6 a7 a8 a9 a10 : Nat → Int32} {t : Nat → Nat → Nat} {w1 w2 : Nat → Nat} {n j L T0 T1 : Nat} (hj : j < 2) (h3 : a2 j = nI 3) (hk1 : ft_ok t w1 a1 (upd a2 j (nI 1))) (hk2 : ft_ok t w2 a1 (upd (upd a2 j (nI 1)) j (nI 2))) (hT0 : ∀ S, ft_min2 t w1 10 S → S = 8 * T0) (hT1 : ∀ S, ft_min2 t w2 10 S → S = 8 * T1) (hB0 : T0 < 10000) (hB1 : T1 < 10000) (hBL : L < 10000) (hL : T0 = L ∨ T1 = L)
    (H : ∀ (m : Nat) (g4 g5 : Int32) (b2 b3 b4 b5 b6 b7 b8 b9 : Nat → Int32), ((m = 0 ∧ T0 = L) ∨ (m = 1 ∧ T0 ≠ L)) → (∀ i, i ≠ j → b2 i = a2 i) → b2 j = nI (2 ^ m) → wX_learn_31 post n (nI (j + 1)) 2 3 (-1) (-1) g4 g5 f6 (nI L) a1 b2 b3 b4 b5 b6 b7 b8 b9 (upd a10 j (nI m))) :
    wX_learn_31 post (n + 1) (nI j) 2 3 (-1) (-1) f4 f5 f6 (nI L) a1 a2 a3 a4 a5 a6 a7 a8 a9 a10 := by
  have hb : ∀ j, j < 2 → ¬ (((3 : Int32) >>> (nI j &&& 31)) &&& 1) = 0 := by decide +kernel
  refine br_f (nI_ge (b := 5) (by omega) (by decide)) (br_f (nI_pos (by omega)) (br_f (nI_ge (b := 5) (by omega) (by decide)) (br_f (hb j hj) (br_f (by decide) ?_))))
  refine ft_fm (by omega) h3 hk1 hk2 hT0 hT1 hB0 hB1 hBL hL (fun m g4 g5 b2 b3 b4 b5 b6 b7 b8 b9 hm h2 => ?_)
  have m2 : m < 2 := by omega
  have hs : ∀ m, m < 2 → ((1 : Int32) <<< (nI m &&& 31)).toInt8.toInt32 = nI (2 ^ m) := by decide +kernel
  refine ⟨pk_in j 5 (by omega), nm_r (e' := upd a10 j (nI m)) (by rw [nI_clamp (by omega), ft_by m (by omega)]) ⟨pk_in j 5 (by omega), pk_in j 5 (by omega), nm_r (e' := upd b2 j (nI (2 ^ m))) (by rw [nI_clamp (by omega), pk_us, hs m m2]) (nm_r (nI_1 j) (H m g4 g5 _ b3 b4 b5 b6 b7 b8 b9 hm (fun i hi => (pk_un hi).trans (h2 i hi)) pk_us))⟩⟩
theorem ft_learn {post : St2 → Prop} {f2 f3 f4 f5 f7 : Int32} {a1 a2 a3 a4 a5 a6 a7 a8 a9 a10 : Nat → Int32} {a b c d L : Nat} (ht : ft_ti a b c d) (hA : ft_A a b c d a1) (hL : L = min (min (a + c + min a c) (a + d)) (min (b + c) (b + d + min b d)))
    (H : ∀ (m0 m1 : Nat) (b10 : Nat → Int32) (g2 g3 g4 g5 : Int32) (b2 b3 b4 b5 b6 b7 b8 b9 : Nat → Int32), ((m0 = 0 ∧ min (a + c + min a c) (a + d) = L) ∨ (m0 = 1 ∧ min (a + c + min a c) (a + d) ≠ L)) → ((m1 = 0 ∧ ((m0 = 0 ∧ a + c + min a c = L) ∨ (m0 = 1 ∧ b + c = L))) ∨ (m1 = 1 ∧ ((m0 = 0 ∧ a + c + min a c ≠ L) ∨ (m0 = 1 ∧ b + c ≠ L)))) → b10 0 = nI m0 → b10 1 = nI m1 → post (2, 3, g2, g3, g4, g5, 1, nI L, a1, b2, b3, b4, b5, b6, b7, b8, b9, b10)) :
    wpX_learn post (2, 3, f2, f3, f4, f5, 0, f7, a1, a2, a3, a4, a5, a6, a7, a8, a9, a10) := by
  have ht' := ht
  unfold ft_ti at ht'
  have fin : ∀ (g4 g5 : Int32) (b2 b3 b4 b5 b6 b7 b8 b9 b10 : Nat → Int32), post (2, 3, -1, -1, g4, g5, 1, nI L, a1, b2, b3, b4, b5, b6, b7, b8, b9, b10) → wX_learn_31 post 4 (nI 2) 2 3 (-1) (-1) g4 g5 1 (nI L) a1 b2 b3 b4 b5 b6 b7 b8 b9 b10 := fun g4 g5 b2 b3 b4 b5 b6 b7 b8 b9 b10 h =>
    br_f (by decide) (br_f (by decide) (br_f (by decide) (br_t (by decide) (br_t rfl (nm_r (e' := (3 : Int32)) (by decide) (br_f (by decide) (br_f (by decide) (br_f (by decide) (br_t (by decide) (br_t rfl (nm_r (e' := (4 : Int32)) (by decide) (br_f (by decide) (br_f (by decide) (br_f (by decide) (br_t (by decide) (br_t rfl (nm_r (e' := (5 : Int32)) (by decide) (br_t (by decide) h))))))))))))))))))
  refine br_t rfl (ft_ask ht hA (fun b2 q0 q1 => ?_))
  refine ft_tot2 (T := L) (ft_ok2 ht hA.1 hA.2.1 hA.2.2.1 hA.2.2.2 q0 (by omega) q1 (by omega)) (Or.inl ⟨rfl, rfl⟩) (fun S h => by rw [hL]; exact ft_S33 ht h) (by omega) (fun g4 g5 b3 b4 b5 b6 b7 b8 b9 => ⟨6, ?_⟩)
  refine ft_le1 (j := 0) (L := L) (T0 := min (a + c + min a c) (a + d)) (T1 := min (b + c) (b + d + min b d)) (by omega) q0 (ft_ok2 (x := 1) (y := 3) ht hA.1 hA.2.1 hA.2.2.1 hA.2.2.2 pk_us (by omega) ((pk_un (by omega)).trans q1) (by omega)) (ft_ok2 (x := 2) (y := 3) ht hA.1 hA.2.1 hA.2.2.1 hA.2.2.2 pk_us (by omega) (((pk_un (by omega)).trans (pk_un (by omega))).trans q1) (by omega)) (fun S h => ft_S13 ht h) (fun S h => ft_S23 ht h) (by omega) (by omega) (by omega) (by omega) (fun m0 g4 g5 c2 c3 c4 c5 c6 c7 c8 c9 hm k2 k0 => ?_)
  have e1 : c2 1 = nI 3 := (k2 1 (by omega)).trans q1
  rcases hm with ⟨rfl, hm⟩ | ⟨rfl, hm⟩
  · refine ft_le1 (j := 1) (L := L) (T0 := a + c + min a c) (T1 := a + d) (by omega) e1 (ft_ok2 (x := 1) (y := 1) ht hA.1 hA.2.1 hA.2.2.1 hA.2.2.2 ((pk_un (by omega)).trans k0) (by omega) pk_us (by omega)) (ft_ok2 (x := 1) (y := 2) ht hA.1 hA.2.1 hA.2.2.1 hA.2.2.2 (((pk_un (by omega)).trans (pk_un (by omega))).trans k0) (by omega) pk_us (by omega)) (fun S h => ft_S11 ht h) (fun S h => ft_S12 ht h) (by omega) (by omega) (by omega) (by omega) (fun m1 g4 g5 d2 d3 d4 d5 d6 d7 d8 d9 hm' l2 l0 => ?_)
    exact fin _ _ _ _ _ _ _ _ _ _ _ (H 0 m1 _ _ _ _ _ _ _ _ _ _ _ _ _ (Or.inl ⟨rfl, hm⟩) (by omega) ((pk_un (by omega)).trans pk_us) pk_us)
  · refine ft_le1 (j := 1) (L := L) (T0 := b + c) (T1 := b + d + min b d) (by omega) e1 (ft_ok2 (x := 2) (y := 1) ht hA.1 hA.2.1 hA.2.2.1 hA.2.2.2 ((pk_un (by omega)).trans k0) (by omega) pk_us (by omega)) (ft_ok2 (x := 2) (y := 2) ht hA.1 hA.2.1 hA.2.2.1 hA.2.2.2 (((pk_un (by omega)).trans (pk_un (by omega))).trans k0) (by omega) pk_us (by omega)) (fun S h => ft_S21 ht h) (fun S h => ft_S22 ht h) (by omega) (by omega) (by omega) (by omega) (fun m1 g4 g5 d2 d3 d4 d5 d6 d7 d8 d9 hm' l2 l0 => ?_)
    exact fin _ _ _ _ _ _ _ _ _ _ _ (H 1 m1 _ _ _ _ _ _ _ _ _ _ _ _ _ (Or.inr ⟨rfl, hm⟩) (by omega) ((pk_un (by omega)).trans pk_us) pk_us)
end
section
theorem ft_tm {post : Int32 → Prop} {x : Nat} (hx : x ≤ 15) (h : post 1) : wpX_isTime post () (nI x) := br_f (nI_pos (by omega)) (br_f (nI_nlt (a := 15) hx (by omega)) h)
theorem ft_or : ∀ x, x < 16 → 1 ≤ x → ∀ y, y < 16 → ¬ ((nI x ||| nI y) ||| 0) = (0 : Int32) := by decide +kernel
theorem ft_a28 {post : Int32 → St2 → Prop} {f0 f1 f2 f3 f4 f5 f6 f7 : Int32} {a1 a2 a3 a4 a5 a6 a7 a8 a9 a10 : Nat → Int32} {a b : Nat} (ha : 1 ≤ a ∧ a ≤ 15) (hb : 1 ≤ b ∧ b ≤ 15) (H : ∃ n, wX_add_68 post (nI a) (nI b) 0 f0 f1 f2 f3 f4 f5 f6 f7 a1 a2 a3 a4 a5 a6 a7 a8 a9 a10 n 0) : wX_add_28 post (nI a) (nI b) 0 f0 f1 f2 f3 f4 f5 f6 f7 a1 a2 a3 a4 a5 a6 a7 a8 a9 a10 :=
  ft_tm ha.2 (br_f (by decide) (ft_tm hb.2 (br_f (by decide) (ft_tm (x := 0) (by omega) (br_f (by decide) (br_f (ft_or a (by omega) ha.1 b (by omega)) H))))))
/-- the first job -/
theorem ft_ad1 {post : Int32 → St2 → Prop} {f2 f3 f4 f5 f6 f7 : Int32} {a1 a2 a3 a4 a5 a6 a7 a8 a9 a10 : Nat → Int32} {a b : Nat} (ha : 1 ≤ a ∧ a ≤ 15) (hb : 1 ≤ b ∧ b ≤ 15) (H : post 0 (2, 1, f2, f3, f4, f5, 0, f7, upd (upd (upd a1 0 (nI a)) 1 (nI b)) 2 0, a2, a3, a4, a5, a6, a7, a8, a9, a10)) : wpX_add post (2, 0, f2, f3, f4, f5, f6, f7, a1, a2, a3, a4, a5, a6, a7, a8, a9, a10) (nI a) (nI b) 0 := by
  refine br_f (by decide) (br_t (by decide) (ft_a28 ha hb ⟨1, br_f (by decide) (br_f (by decide) (br_f (by decide) (br_t (by decide) (br_t rfl (nm_r (e' := (1 : Int32)) (by decide) ⟨pk_in 0 15 (by omega), nm_r (e' := upd a1 0 (nI a)) ?_ ⟨pk_in 1 15 (by omega), nm_r (e' := upd (upd a1 0 (nI a)) 1 (nI b)) ?_ ⟨pk_in 2 15 (by omega), nm_r (e' := upd (upd (upd a1 0 (nI a)) 1 (nI b)) 2 0) (by rfl) H⟩⟩⟩)))))⟩))
  · rw [ft_by a (by omega)]
    rfl
  · rw [ft_by b (by omega)]
    rfl
/-- the second job -/
theorem ft_ad2 {post : Int32 → St2 → Prop} {f2 f3 f4 f5 f6 f7 : Int32} {a1 a2 a3 a4 a5 a6 a7 a8 a9 a10 : Nat → Int32} {a b : Nat} (ha : 1 ≤ a ∧ a ≤ 15) (hb : 1 ≤ b ∧ b ≤ 15) (H : post 1 (2, 3, f2, f3, f4, f5, 0, f7, upd (upd (upd a1 3 (nI a)) 4 (nI b)) 5 0, a2, a3, a4, a5, a6, a7, a8, a9, a10)) : wpX_add post (2, 1, f2, f3, f4, f5, f6, f7, a1, a2, a3, a4, a5, a6, a7, a8, a9, a10) (nI a) (nI b) 0 := by
  refine br_f (by decide) (br_t (by decide) (ft_a28 ha hb ⟨2, br_f (by decide) (br_f (by decide) (br_f (by decide) (br_f (by decide) (br_f (by decide) (nm_r (e' := (1 : Int32)) (by decide) ?_)))))⟩))
  refine br_f (by decide) (br_f (by decide) (br_f (by decide) (br_t (by decide) (br_t rfl (nm_r (e' := (3 : Int32)) (by decide) ⟨pk_in 3 15 (by omega), nm_r (e' := upd a1 3 (nI a)) ?_ ⟨pk_in 4 15 (by omega), nm_r (e' := upd (upd a1 3 (nI a)) 4 (nI b)) ?_ ⟨pk_in 5 15 (by omega), nm_r (e' := upd (upd (upd a1 3 (nI a)) 4 (nI b)) 5 0) (by rfl) H⟩⟩⟩)))))
  · rw [ft_by a (by omega)]
    rfl
  · rw [ft_by b (by omega)]
    rfl
theorem ft_mn {post : Int32 → Prop} {x y : Nat} (hx : x < 10000) (hy : y < 10000) (h : post (nI (min x y))) : wpL_min post () (nI x) (nI y) := by
  refine pk_le y x (fun z => ?_) (fun z => ?_)
  · rw [Nat.min_eq_right z] at h
    exact h
  · rw [Nat.min_eq_left (by omega)] at h
    exact h
/-- a machine asked for once the plan is known -/
theorem ft_mo {post : Int32 → St2 → Prop} {f2 f3 f4 f5 f7 : Int32} {a1 a2 a3 a4 a5 a6 a7 a8 a9 a10 : Nat → Int32} {j m : Nat} (hj : j < 2) (hm : a10 j = nI m) (H : post (nI m) (2, 3, f2, f3, f4, f5, 1, f7, a1, a2, a3, a4, a5, a6, a7, a8, a9, a10)) : wpX_machineOf post (2, 3, f2, f3, f4, f5, 1, f7, a1, a2, a3, a4, a5, a6, a7, a8, a9, a10) (nI j) := by
  have hb : ∀ j, j < 2 → ¬ (((3 : Int32) >>> (nI j &&& 31)) &&& 1) = 0 := by decide +kernel
  refine br_f (nI_pos (by omega)) (br_f (nI_ge (b := 5) (by omega) (by decide)) (br_f (hb j hj) (br_f (by decide) (br_f (by decide) ⟨pk_in j 5 (by omega), ?_⟩))))
  rw [nI_clamp (by omega), hm]
  exact H
theorem ft_185 {post : Int32 → St0 → Prop} {mc ms kc ks : Nat} {f2 f3 f4 f5 f7 : Int32} {a1 a2 a3 a4 a5 a6 a7 a8 a9 a10 : Nat → Int32} {a b c d L M0 M1 : Nat} (ht : ft_ti a b c d) (hA : ft_A a b c d a1) (hL : L = min (min (a + c + min a c) (a + d)) (min (b + c) (b + d + min b d)))
    (h0 : (M0 = 0 ∧ (a + c + min a c = L ∨ a + d = L)) ∨ (M0 = 1 ∧ a + c + min a c ≠ L ∧ a + d ≠ L))
    (h1 : (M1 = 0 ∧ (a + c + min a c = L ∨ (a + d ≠ L ∧ b + c = L))) ∨ (M1 = 1 ∧ a + c + min a c ≠ L ∧ (a + d = L ∨ b + c ≠ L)))
    (h : post 1 ()) : wL_lawOf_185 post mc ms (nI a) (nI c) (nI d) 1 (nI (a + c + min a c)) (nI (a + d)) (nI L) (nI M0) (nI M1) kc ks 2 3 f2 f3 f4 f5 0 f7 a1 a2 a3 a4 a5 a6 a7 a8 a9 a10 := by
  have ht' := ht
  unfold ft_ti at ht'
  unfold wL_lawOf_185
  refine ft_lwo ht hA (fun g2 g3 g4 g5 b2 b3 b4 b5 b6 b7 b8 b9 => ?_)
  refine ft_lwi ht hA (fun g2 g3 g4 g5 b2 b3 b4 b5 b6 b7 b8 b9 => ?_)
  refine ft_lid ht hA (fun g2 g3 g4 g5 b2 b3 b4 b5 b6 b7 b8 b9 => ?_)
  refine ft_ldo ht hA (fun g2 g3 g4 g5 b2 b3 b4 b5 b6 b7 b8 b9 => ?_)
  dsimp only
  rw [← hL, nI_add]
  refine ft_mn (by omega) (by omega) (br_t rfl ?_)
  refine ft_learn (L := L) ht hA hL (fun m0 m1 b10 g2 g3 g4 g5 b2 b3 b4 b5 b6 b7 b8 b9 k0 k1 e0 e1 => ?_)
  have y0 : m0 = M0 := by omega
  have y1 : m1 = M1 := by omega
  subst y0 y1
  refine br_t rfl ?_
  refine ft_mo (j := 0) (by omega) e0 (br_t rfl ?_)
  refine ft_mo (j := 1) (by omega) e1 (br_t rfl ?_)
  exact ft_mn (by omega) (by omega) (br_t rfl (ft_mn (by omega) (by omega) (br_t rfl (br_t rfl (br_t rfl h)))))
end
section
theorem ft_arg (z : Int32) : ∃ a : Nat, (1 ≤ a ∧ a ≤ 15) ∧ 1 + ((z &&& 65535) - (z &&& 65535) / 15 * 15) = nI a := by
  obtain ⟨k, hk, e⟩ := pk_andE z (m := 65535) 16 (by decide)
  refine ⟨1 + k % 15, by omega, ?_⟩
  rw [e, show (15 : Int32) = nI 15 from rfl, pk_rem (by omega) (by omega) (by omega), show (1 : Int32) = nI 1 from rfl, nI_add]
theorem ft_lawOf {post : Int32 → St0 → Prop} (p0 p1 : Int32) (h : post 1 ()) : wpL_lawOf post 72 1152 () p0 p1 := by
  obtain ⟨a, ha, ea⟩ := ft_arg p0
  obtain ⟨b, hb, eb⟩ := ft_arg (p0 >>> ((16 : Int32) &&& 31))
  obtain ⟨c, hc, ec⟩ := ft_arg p1
  obtain ⟨d, hd, ed⟩ := ft_arg (p1 >>> ((16 : Int32) &&& 31))
  have ht : ft_ti a b c d := ⟨ha.1, ha.2, hb.1, hb.2, hc.1, hc.2, hd.1, hd.2⟩
  refine ⟨by omega, by omega, 10, 157, by omega, by omega, ?_⟩
  refine ⟨by omega, by omega, by omega, by omega, by omega, by omega, by omega, by omega, by omega, by omega, by omega, by omega, by omega, by omega, by omega, by omega, by omega, by omega, by omega, by omega, ?_⟩
  refine br_t (by decide) (br_t (by decide) ⟨by decide, nm_r ea ⟨by decide, nm_r eb ⟨by decide, nm_r ec ⟨by decide, nm_r ed ?_⟩⟩⟩⟩)
  refine ft_ad1 ha hb (ft_ad2 hc hd ?_)
  have hA : ft_A a b c d (upd (upd (upd (upd (upd (upd (fun _ => 0) 0 (nI a)) 1 (nI b)) 2 0) 3 (nI c)) 4 (nI d)) 5 0) := ⟨rfl, rfl, rfl, rfl⟩
  generalize upd (upd (upd (upd (upd (upd (fun _ => 0) 0 (nI a)) 1 (nI b)) 2 0) 3 (nI c)) 4 (nI d)) 5 0 = a1 at hA ⊢
  refine ft_mn (by omega) (by omega) (nm_r (e' := nI (a + c + min a c)) (by rw [nI_add, nI_add]) (nm_r (e' := nI (a + d)) (nI_add a d) (nm_r (e' := nI (b + c)) (nI_add b c) (ft_mn (by omega) (by omega) (nm_r (e' := nI (b + d + min b d)) (by rw [nI_add, nI_add]) (ft_mn (by omega) (by omega) (ft_mn (by omega) (by omega) (ft_mn (by omega) (by omega) ?_))))))))
  have hL : min (min (a + c + min a c) (a + d)) (min (b + c) (b + d + min b d)) = min (min (a + c + min a c) (a + d)) (min (b + c) (b + d + min b d)) := rfl
  generalize hG : min (min (a + c + min a c) (a + d)) (min (b + c) (b + d + min b d)) = L at hL ⊢
  have bL : L < 10000 := by omega
  refine pk_eq (a + c + min a c) L (fun z1 => ?_) (fun z1 => pk_eq (a + d) L (fun z2 => ?_) (fun z2 => ?_))
  · refine pk_eq (a + c + min a c) L (fun y1 => ?_) (fun y1 => absurd z1 y1)
    exact ft_185 (M0 := 0) (M1 := 0) ht hA hG.symm (Or.inl ⟨rfl, Or.inl z1⟩) (Or.inl ⟨rfl, Or.inl z1⟩) h
  · refine pk_eq (a + c + min a c) L (fun y1 => absurd y1 z1) (fun y1 => pk_eq (a + d) L (fun y2 => ?_) (fun y2 => absurd z2 y2))
    exact ft_185 (M0 := 0) (M1 := 1) ht hA hG.symm (Or.inl ⟨rfl, Or.inr z2⟩) (Or.inr ⟨rfl, z1, Or.inl z2⟩) h
  · refine pk_eq (a + c + min a c) L (fun y1 => absurd y1 z1) (fun y1 => pk_eq (a + d) L (fun y2 => absurd y2 z2) (fun y2 => pk_eq (b + c) L (fun y3 => ?_) (fun y3 => ?_)))
    · exact ft_185 (M0 := 1) (M1 := 0) ht hA hG.symm (Or.inr ⟨rfl, z1, z2⟩) (Or.inl ⟨rfl, Or.inr ⟨z2, y3⟩⟩) h
    · exact ft_185 (M0 := 1) (M1 := 1) ht hA hG.symm (Or.inr ⟨rfl, z1, z2⟩) (Or.inr ⟨rfl, z1, Or.inr y3⟩) h
theorem ft_cell {post : Int32 → Prop} {L k : Nat} {xs : Nat → Int32} (hL : L ≤ 2) (hk : k < 2) (h : ∀ r, post r) : wpL_cellAt post L xs () (nI k) := pk_le L k (fun _ => h _) (fun z => ⟨pk_in k L z, h _⟩)
theorem i_vc (xs : Nat → Int32) (L : Nat) (hL : L ≤ 2) : wpL_law (fun r => r = 1) L xs :=
  ft_cell (k := 0) hL (by omega) (fun r1 => ft_cell (k := 1) hL (by omega) (fun r2 => ⟨72, 1152, by omega, by omega, ft_lawOf r1 r2 rfl⟩))
end
