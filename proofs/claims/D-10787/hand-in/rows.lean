section
/-! plain numbers: no program in sight -/
theorem sp_h0 : ((0 : Int32) / 2) = 0 := by decide
theorem sp_hc : ((0 : Int32) / 2).toNatClampNeg = 0 := by decide
theorem sp_c0 : (0 : Int32).toNatClampNeg = 0 := by decide
theorem sp_d0 : ((2 : Int32) * 0) = 0 := by decide
theorem sp_d1 : ((2 : Int32) * 0) + 1 = nI 1 := by decide
/-- what the jobs with deadlines up to t need -/
def sp_dem (c d p t : Nat) : Nat := if t < d then 0 else ((t - d) / p + 1) * c
theorem sp_dem_lo {c d p t : Nat} (h : t < d) : sp_dem c d p t = 0 := if_pos h
theorem sp_dem_hi {c d p t : Nat} (h : d ≤ t) : sp_dem c d p t = ((t - d) / p + 1) * c := if_neg (by omega)
theorem sp_dem_le {c d p t : Nat} (hcd : c ≤ d) (hcp : c ≤ p) : sp_dem c d p t ≤ t := by
  by_cases h : t < d
  · rw [sp_dem_lo h]
    omega
  · rw [sp_dem_hi (by omega)]
    have h1 : (t - d) / p * p ≤ t - d := Nat.div_mul_le_self _ _
    have h2 : (t - d) / p * c ≤ (t - d) / p * p := Nat.mul_le_mul_left _ hcp
    rw [Nat.add_mul, Nat.one_mul]
    omega
/-- the last deadline ahead of t -/
theorem sp_last {d p t : Nat} (h : d < t) : d + (t - 1 - d) / p * p < t := by
  have h1 : (t - 1 - d) / p * p ≤ t - 1 - d := Nat.div_mul_le_self _ _
  omega
theorem sp_load_le {c p : Nat} (hcp : c ≤ p) : c * (60 / p) ≤ 60 := by
  have h1 : c * (60 / p) ≤ p * (60 / p) := Nat.mul_le_mul_right _ hcp
  have h2 : p * (60 / p) ≤ 60 := Nat.mul_div_le 60 p
  omega
theorem sp_next {m p K : Nat} (h : m * p < K * p) : m * p + p ≤ K * p := by
  have h1 : m < K := Nat.lt_of_mul_lt_mul_right h
  have h2 : (m + 1) * p ≤ K * p := Nat.mul_le_mul_right p h1
  rw [Nat.add_mul, Nat.one_mul] at h2
  exact h2
theorem sp_mod {m p t : Nat} (h1 : m * p ≤ t) (h2 : t < m * p + p) : t % p = t - m * p := by
  obtain ⟨s, rfl⟩ : ∃ s, t = s + m * p := ⟨t - m * p, by omega⟩
  rw [Nat.add_mul_mod_self_right, Nat.mod_eq_of_lt (by omega)]
  omega
/-- an int between two naturals -/
theorem sp_nat {x : Int32} {a b : Nat} (ha : a < 2 ^ 31) (hb : b < 2 ^ 31) (h1 : ¬ x < nI a) (h2 : x ≤ nI b) : ∃ j : Nat, a ≤ j ∧ j ≤ b ∧ x = nI j := by
  rw [Int32.lt_iff_toInt_lt, nI_toInt ha] at h1
  rw [Int32.le_iff_toInt_le, nI_toInt hb] at h2
  refine ⟨x.toInt.toNat, by omega, by omega, Int32.toInt_inj.mp ?_⟩
  rw [nI_toInt (by omega)]
  omega
theorem sp_lt_le {x y : Int32} (h : ¬ y < x) : x ≤ y := by
  rw [Int32.lt_iff_toInt_lt] at h
  rw [Int32.le_iff_toInt_le]
  omega
theorem sp_le_lt {x y : Int32} (h : ¬ y ≤ x) : x < y := by
  rw [Int32.le_iff_toInt_le] at h
  rw [Int32.lt_iff_toInt_lt]
  omega
/-- the task that runs in slot t -/
def sp_run (c p t : Nat) : Int32 := if t % p < c then 0 else -5
/-- the first j stretches: e k is where stretch k begins -/
def sp_G (c p now j : Nat) (a6 a7 : Nat → Int32) : Prop := ∃ e : Nat → Nat, e 0 = 0 ∧ e j = now ∧ ∀ k, k < j → e (k + 1) ≤ 60 ∧ a6 k = nI (e (k + 1)) ∧ ∀ t, e k ≤ t → t < e (k + 1) → a7 k = sp_run c p t
theorem sp_G0 (c p : Nat) (a6 a7 : Nat → Int32) : sp_G c p 0 0 a6 a7 := ⟨fun _ => 0, rfl, rfl, fun k h => absurd h (by omega)⟩
theorem sp_Gs {c p now j w : Nat} {a6 a7 : Nat → Int32} {x : Int32} (h : sp_G c p now j a6 a7) (hw : w ≤ 60) (hx : ∀ t, now ≤ t → t < w → x = sp_run c p t) : sp_G c p w (j + 1) (upd a6 j (nI w)) (upd a7 j x) := by
  obtain ⟨e, e0, ej, he⟩ := h
  refine ⟨fun i => if i ≤ j then e i else w, ?_, ?_, ?_⟩
  · show (if 0 ≤ j then e 0 else w) = 0
    rw [if_pos (Nat.zero_le j), e0]
  · show (if j + 1 ≤ j then e (j + 1) else w) = w
    rw [if_neg (by omega)]
  · intro k hk
    show (if k + 1 ≤ j then e (k + 1) else w) ≤ 60 ∧ upd a6 j (nI w) k = nI (if k + 1 ≤ j then e (k + 1) else w) ∧ ∀ t, (if k ≤ j then e k else w) ≤ t → t < (if k + 1 ≤ j then e (k + 1) else w) → upd a7 j x k = sp_run c p t
    rw [if_pos (show k ≤ j by omega)]
    by_cases hj : k = j
    · subst hj
      rw [if_neg (show ¬ k + 1 ≤ k by omega), pk_us, pk_us, ej]
      exact ⟨hw, rfl, hx⟩
    · rw [if_pos (show k + 1 ≤ j by omega), pk_un hj, pk_un hj]
      exact he k (by omega)
end
section
section
variable {fc ft fp fs : Int32} {a1 a2 a3 a4 a5 a6 a7 a8 a9 a10 : Nat → Int32}
/-! the loops over the parts: none matches from k0 on -/
theorem sp_load_rest {post : Int32 → Prop} {x s : Int32} {k0 : Nat} (h3 : ∀ k, k0 ≤ k → k < 26 → ¬ a3 k = x) (H : post s) : ∀ n k, k ≤ 26 → k0 ≤ k → 26 - k < n → wX_loadOf_4 post x fc ft fp fs a1 a2 a3 a4 a5 a6 a7 a8 a9 a10 n s (nI k) := by
  intro n
  induction n with
  | zero => intro k _ _ h; omega
  | succ n ih =>
    intro k hk h0 hn
    refine pk_le 26 k (fun _ => H) (fun hlt => ⟨pk_in k 26 hlt, ?_⟩)
    rw [nI_clamp (show k < 2 ^ 31 by omega)]
    exact br_f (h3 k h0 hlt) (nm_r (nI_1 k) (ih (k + 1) (by omega) (by omega) (by omega)))
theorem sp_least_rest {post : Int32 → Prop} {x s : Int32} {k0 : Nat} (h3 : ∀ k, k0 ≤ k → k < 26 → ¬ a3 k = x) (H : post s) : ∀ n k, k ≤ 26 → k0 ≤ k → 26 - k < n → wX_leastDeadline_5 post x fc ft fp fs a1 a2 a3 a4 a5 a6 a7 a8 a9 a10 n s (nI k) := by
  intro n
  induction n with
  | zero => intro k _ _ h; omega
  | succ n ih =>
    intro k hk h0 hn
    refine pk_le 26 k (fun _ => H) (fun hlt => ⟨pk_in k 26 hlt, ?_⟩)
    rw [nI_clamp (show k < 2 ^ 31 by omega)]
    exact br_f (h3 k h0 hlt) (nm_r (nI_1 k) (ih (k + 1) (by omega) (by omega) (by omega)))
theorem sp_demand_rest {post : Int32 → Prop} {x t s : Int32} {k0 : Nat} (h3 : ∀ k, k0 ≤ k → k < 26 → ¬ a3 k = x) (H : post s) : ∀ n k, k ≤ 26 → k0 ≤ k → 26 - k < n → wX_demand_5 post x t fc ft fp fs a1 a2 a3 a4 a5 a6 a7 a8 a9 a10 n s (nI k) := by
  intro n
  induction n with
  | zero => intro k _ _ h; omega
  | succ n ih =>
    intro k hk h0 hn
    refine pk_le 26 k (fun _ => H) (fun hlt => ⟨pk_in k 26 hlt, ?_⟩)
    rw [nI_clamp (show k < 2 ^ 31 by omega)]
    exact br_f (h3 k h0 hlt) (nm_r (nI_1 k) (ih (k + 1) (by omega) (by omega) (by omega)))
theorem sp_before_rest {post : Int32 → Prop} {x t s : Int32} {k0 : Nat} (h3 : ∀ k, k0 ≤ k → k < 26 → ¬ a3 k = x) (H : post s) : ∀ n k, k ≤ 26 → k0 ≤ k → 26 - k < n → wX_deadlineBefore_5 post x t fc ft fp fs a1 a2 a3 a4 a5 a6 a7 a8 a9 a10 n s (nI k) := by
  intro n
  induction n with
  | zero => intro k _ _ h; omega
  | succ n ih =>
    intro k hk h0 hn
    refine pk_le 26 k (fun _ => H) (fun hlt => ⟨pk_in k 26 hlt, ?_⟩)
    rw [nI_clamp (show k < 2 ^ 31 by omega)]
    exact br_f (h3 k h0 hlt) (nm_r (nI_1 k) (ih (k + 1) (by omega) (by omega) (by omega)))
/-! the four scans, the part in place 0 the only one of core x -/
theorem sp_load_none {post : Int32 → Prop} {x : Int32} (h3 : ∀ k, k < 26 → ¬ a3 k = x) (H : post 0) : wpX_loadOf post (fc, ft, fp, fs, a1, a2, a3, a4, a5, a6, a7, a8, a9, a10) x :=
  ⟨27, sp_load_rest (k0 := 0) (fun k _ h => h3 k h) H 27 0 (by omega) (by omega) (by omega)⟩
theorem sp_load_one {post : Int32 → Prop} {x : Int32} {c p : Nat} (h0 : a3 0 = x) (h3 : ∀ k, 1 ≤ k → k < 26 → ¬ a3 k = x) (h2 : a2 0 = nI p) (h4 : a4 0 = nI c) (hp : 1 ≤ p) (hp' : p ≤ 60) (H : post (nI (c * (60 / p)))) : wpX_loadOf post (fc, ft, fp, fs, a1, a2, a3, a4, a5, a6, a7, a8, a9, a10) x := by
  refine ⟨28, br_f (by decide) ⟨pk_in 0 26 (by omega), ?_⟩⟩
  rw [sp_c0, sp_h0, sp_c0]
  refine br_t h0 ⟨pk_in 0 26 (by omega), by decide, pk_in 0 13 (by omega), ?_, ?_⟩
  · rw [h2]
    exact nI_ne0 hp (by omega)
  · refine nm_r (e' := nI (c * (60 / p))) ?_ (nm_r (nI_1 0) (sp_load_rest (k0 := 1) h3 H 27 1 (by omega) (by omega) (by omega)))
    rw [h2, h4, show (60 : Int32) = nI 60 from rfl, pk_div (by omega) hp (by omega), pk_mul, show (0 : Int32) = nI 0 from rfl, nI_add, Nat.zero_add]
theorem sp_least_one {post : Int32 → Prop} {x : Int32} {d : Nat} (h0 : a3 0 = x) (h3 : ∀ k, 1 ≤ k → k < 26 → ¬ a3 k = x) (h5 : a5 0 = nI d) (hd : d ≤ 60) (H : post (nI d)) : wpX_leastDeadline post (fc, ft, fp, fs, a1, a2, a3, a4, a5, a6, a7, a8, a9, a10) x := by
  refine ⟨28, br_f (by decide) ⟨pk_in 0 26 (by omega), ?_⟩⟩
  rw [sp_c0, h5]
  refine br_t h0 ⟨pk_in 0 26 (by omega), pk_le 60 d (fun h => nm_r (nI_1 0) ?_) (fun h => ⟨pk_in 0 26 (by omega), nm_e (nm_r (nI_1 0) (sp_least_rest (k0 := 1) h3 H 27 1 (by omega) (by omega) (by omega)))⟩)⟩
  have e : d = 60 := by omega
  subst e
  exact sp_least_rest (k0 := 1) h3 H 27 1 (by omega) (by omega) (by omega)
theorem sp_demand_one {post : Int32 → Prop} {x : Int32} {c d p t : Nat} (h0 : a3 0 = x) (h3 : ∀ k, 1 ≤ k → k < 26 → ¬ a3 k = x) (h2 : a2 0 = nI p) (h4 : a4 0 = nI c) (h5 : a5 0 = nI d) (hp : 1 ≤ p) (hp' : p ≤ 60) (hd : d ≤ 60) (ht : t ≤ 60) (H : post (nI (sp_dem c d p t))) : wpX_demand post (fc, ft, fp, fs, a1, a2, a3, a4, a5, a6, a7, a8, a9, a10) x (nI t) := by
  refine ⟨28, br_f (by decide) ⟨pk_in 0 26 (by omega), ?_⟩⟩
  rw [sp_c0, sp_h0, sp_c0, h2, h4, h5]
  refine br_t h0 ⟨pk_in 0 26 (by omega), pk_lt t d (fun h => nm_r (nI_1 0) ?_) (fun h => ⟨pk_in 0 26 (by omega), by decide, pk_in 0 13 (by omega), nI_ne0 hp (by omega), pk_in 0 26 (by omega), ?_⟩)⟩
  · rw [sp_dem_lo h] at H
    exact sp_demand_rest (k0 := 1) h3 H 27 1 (by omega) (by omega) (by omega)
  · rw [sp_dem_hi h] at H
    refine nm_r (e' := nI (((t - d) / p + 1) * c)) ?_ (nm_r (nI_1 0) (sp_demand_rest (k0 := 1) h3 H 27 1 (by omega) (by omega) (by omega)))
    rw [pk_sub h, pk_div (by omega) hp (by omega), nI_1, pk_mul, show (0 : Int32) = nI 0 from rfl, nI_add, Nat.zero_add]
theorem sp_before_one {post : Int32 → Prop} {x : Int32} {d p t : Nat} (h0 : a3 0 = x) (h3 : ∀ k, 1 ≤ k → k < 26 → ¬ a3 k = x) (h2 : a2 0 = nI p) (h5 : a5 0 = nI d) (hp : 1 ≤ p) (hp' : p ≤ 60) (hd : 1 ≤ d) (hdt : d < t) (ht : t ≤ 60) (H : post (nI (d + (t - 1 - d) / p * p))) : wpX_deadlineBefore post (fc, ft, fp, fs, a1, a2, a3, a4, a5, a6, a7, a8, a9, a10) x (nI t) := by
  have hl := sp_last (p := p) hdt
  refine ⟨28, br_f (by decide) ⟨pk_in 0 26 (by omega), ?_⟩⟩
  rw [sp_c0, sp_h0, sp_c0, h2, h5]
  refine br_t h0 ⟨pk_in 0 26 (by omega), pk_le t d (fun h => absurd h (by omega)) (fun h => ⟨pk_in 0 26 (by omega), pk_in 0 26 (by omega), by decide, pk_in 0 13 (by omega), nI_ne0 hp (by omega), by decide, pk_in 0 13 (by omega), ?_⟩)⟩
  refine nm_r (e' := nI (d + (t - 1 - d) / p * p)) ?_ (pk_le (d + (t - 1 - d) / p * p) 0 (fun z => absurd z (by omega)) (fun z => nm_r (nI_1 0) (sp_before_rest (k0 := 1) h3 H 27 1 (by omega) (by omega) (by omega))))
  rw [show (1 : Int32) = nI 1 from rfl, pk_sub (by omega), pk_sub (by omega), pk_div (by omega) hp (by omega), pk_mul, nI_add]
end
end
section
section
variable {fc ft fp fs : Int32} {a1 a2 a3 a4 a5 a6 a7 a8 a9 a10 : Nat → Int32}
/-! the demand test says yes for one part of cost c, deadline d, period p on core x -/
theorem sp_pass_92 {post : Int32 → Prop} {c d p t : Nat} (hcd : c ≤ d) (hcp : c ≤ p) (hd : d ≤ 60) (ht : t ≤ 60) (hle : sp_dem c d p t ≤ d) (H : post 1) : wX_passes_92 post (nI d) (nI t) (nI (sp_dem c d p t)) fc ft fp fs a1 a2 a3 a4 a5 a6 a7 a8 a9 a10 := by
  have hw : sp_dem c d p t ≤ t := sp_dem_le hcd hcp
  exact pk_lt t (sp_dem c d p t) (fun z => absurd z (by omega)) (fun _ => pk_lt d (sp_dem c d p t) (fun z => absurd z (by omega)) (fun _ => H))
theorem sp_pass_36 {post : Int32 → Prop} {x : Int32} {c d p : Nat} (h0 : a3 0 = x) (h3 : ∀ k, 1 ≤ k → k < 26 → ¬ a3 k = x) (h2 : a2 0 = nI p) (h4 : a4 0 = nI c) (h5 : a5 0 = nI d) (hp : 1 ≤ p) (hp' : p ≤ 60) (hd1 : 1 ≤ d) (hd : d ≤ 60) (hcd : c ≤ d) (hcp : c ≤ p) (H : post 1) : ∀ n t r, t + r ≤ 60 → t < n → wX_passes_36 post x (nI d) fc ft fp fs a1 a2 a3 a4 a5 a6 a7 a8 a9 a10 n (nI t) (nI (sp_dem c d p t)) (nI r) := by
  intro n
  induction n with
  | zero => intro t r _ h; omega
  | succ n ih =>
    intro t r htr hn
    have hw : sp_dem c d p t ≤ t := sp_dem_le hcd hcp
    refine pk_le 62 r (fun z => absurd z (by omega)) (fun _ => pk_lt t (sp_dem c d p t) (fun z => absurd z (by omega)) (fun _ => ?_))
    refine pk_le (sp_dem c d p t) d (fun hle => sp_pass_92 hcd hcp hd (by omega) hle H) (fun hgt => ?_)
    refine pk_le t (sp_dem c d p t) (fun hge => ?_) (fun hlt => ?_)
    · have hl := sp_last (p := p) (show d < t by omega)
      refine sp_before_one h0 h3 h2 h5 hp hp' hd1 (by omega) (by omega) ?_
      exact sp_demand_one h0 h3 h2 h4 h5 hp hp' hd (by omega) (nm_r (nI_1 r) (ih _ (r + 1) (by omega) (by omega)))
    · exact sp_demand_one h0 h3 h2 h4 h5 hp hp' hd (by omega) (nm_r (nI_1 r) (ih _ (r + 1) (by omega) (by omega)))
theorem sp_passes {post : Int32 → Prop} {x : Int32} {c d p : Nat} (h0 : a3 0 = x) (h3 : ∀ k, 1 ≤ k → k < 26 → ¬ a3 k = x) (h2 : a2 0 = nI p) (h4 : a4 0 = nI c) (h5 : a5 0 = nI d) (hp : 1 ≤ p) (hp' : p ≤ 60) (hd1 : 1 ≤ d) (hd : d ≤ 60) (hcd : c ≤ d) (hcp : c ≤ p) (H : post 1) : wpX_passes post (fc, ft, fp, fs, a1, a2, a3, a4, a5, a6, a7, a8, a9, a10) x := by
  have hl := sp_load_le hcp
  refine sp_load_one h0 h3 h2 h4 hp hp' (pk_le (c * (60 / p)) 60 (fun _ => ?_) (fun z => absurd z (by omega)))
  refine sp_least_one h0 h3 h5 hd ?_
  exact sp_demand_one (t := 60) h0 h3 h2 h4 h5 hp hp' hd (by omega) ⟨61, sp_pass_36 h0 h3 h2 h4 h5 hp hp' hd1 hd hcd hcp H 61 60 0 (by omega) (by omega)⟩
theorem sp_nar1 : narrow .boolean (.int 1) = .int 1 := by rfl
theorem sp_passesWith {post : Int32 → St2 → Prop} {x i : Int32} {c d p : Nat} (hi : i = 0) (h3 : ∀ k, 1 ≤ k → k < 26 → ¬ a3 k = x) (h2 : a2 0 = nI p) (hp : 1 ≤ p) (hp' : p ≤ 60) (hd1 : 1 ≤ d) (hd : d ≤ 60) (hcd : c ≤ d) (hcp : c ≤ p) (H : post 1 (fc, ft, fp, fs, a1, a2, upd (upd a3 0 x) 0 (-1), upd a4 0 (nI c), upd a5 0 (nI d), a6, a7, a8, a9, a10)) : wpX_passesWith post (fc, ft, fp, fs, a1, a2, a3, a4, a5, a6, a7, a8, a9, a10) x i (nI c) (nI d) := by
  subst hi
  refine ⟨pk_in 0 26 (by omega), nm_e ⟨pk_in 0 26 (by omega), nm_e ⟨pk_in 0 26 (by omega), nm_e ?_⟩⟩⟩
  rw [sp_c0]
  refine sp_passes (c := c) (d := d) (p := p) pk_us (fun k hk hk' => ?_) h2 pk_us pk_us hp hp' hd1 hd hcd hcp ⟨pk_in 0 26 (by omega), nm_e ⟨sp_nar1, H⟩⟩
  rw [pk_un (by omega)]
  exact h3 k hk hk'
theorem sp_placeWhole {post : Int32 → St2 → Prop} {id : Int32} {c d p : Nat} (hid : id = 0) (hc : ¬ fc ≤ 0) (h3 : ∀ k, 1 ≤ k → k < 26 → ¬ a3 k = 0) (h2 : a2 0 = nI p) (hp : 1 ≤ p) (hp' : p ≤ 60) (hd1 : 1 ≤ d) (hd : d ≤ 60) (hcd : c ≤ d) (hcp : c ≤ p) (H : post 1 (fc, ft, fp, fs, a1, a2, upd (upd (upd a3 0 0) 0 (-1)) 0 0, upd (upd a4 0 (nI c)) 0 (nI c), upd (upd a5 0 (nI d)) 0 (nI d), a6, a7, a8, a9, a10)) : wpX_placeWhole post (fc, ft, fp, fs, a1, a2, a3, a4, a5, a6, a7, a8, a9, a10) id (nI c) (nI d) := by
  subst hid
  refine ⟨1, br_f hc ?_⟩
  refine sp_passesWith sp_d0 h3 h2 hp hp' hd1 hd hcd hcp (br_f (by decide) ?_)
  rw [sp_d0]
  refine ⟨pk_in 0 26 (by omega), nm_e ⟨pk_in 0 26 (by omega), nm_e ⟨pk_in 0 26 (by omega), nm_e ?_⟩⟩⟩
  rw [sp_c0]
  exact H
theorem sp_freeId {post : Int32 → Prop} (h1 : a1 0 = 0) (H : post 0) : wpX_freeId post (fc, ft, fp, fs, a1, a2, a3, a4, a5, a6, a7, a8, a9, a10) := by
  refine ⟨1, br_f (by decide) ⟨pk_in 0 13 (by omega), ?_⟩⟩
  rw [sp_c0]
  exact br_t h1 H
/-! periods -/
def sp_bad (p : Int32) : Prop := p < 2 ∨ 60 < p ∨ ¬ (60 - 60 / p * p) = 0
theorem sp_not0 {p : Int32} (h : ¬ p < 2) : ¬ p = 0 := by
  intro e
  subst e
  exact h (by decide)
theorem sp_badPeriod_1 {post : Int32 → Prop} {p : Int32} (hb : sp_bad p) (H : post 1) : wpX_badPeriod post () p :=
  br_c (fun _ => H) (fun h1 => br_c (fun _ => H) (fun h2 => ⟨sp_not0 h1, br_c (fun h3 => hb.elim (fun z => absurd z h1) (fun z => z.elim (fun z => absurd z h2) (fun z => absurd h3 z))) (fun _ => H)⟩))
theorem sp_badPeriod_0 {post : Int32 → Prop} {p : Int32} (hb : ¬ sp_bad p) (H : post 0) : wpX_badPeriod post () p :=
  br_c (fun h1 => absurd (Or.inl h1) hb) (fun h1 => br_c (fun h2 => absurd (Or.inr (Or.inl h2)) hb) (fun h2 => ⟨sp_not0 h1, br_c (fun _ => H) (fun h3 => absurd (Or.inr (Or.inr h3)) hb)⟩))
theorem sp_good {p : Int32} (hb : ¬ sp_bad p) : ∃ q K : Nat, 2 ≤ q ∧ q ≤ 60 ∧ 60 = K * q ∧ p = nI q := by
  have h1 : ¬ p < 2 := fun z => hb (Or.inl z)
  have h2 : ¬ 60 < p := fun z => hb (Or.inr (Or.inl z))
  obtain ⟨q, hq, hq', rfl⟩ := sp_nat (x := p) (a := 2) (b := 60) (by omega) (by omega) h1 (sp_lt_le h2)
  refine ⟨q, 60 / q, hq, hq', ?_, rfl⟩
  have h3 : nI 60 - nI 60 / nI q * nI q = 0 := Classical.byContradiction (fun z => hb (Or.inr (Or.inr z)))
  rw [pk_rem (by omega) (by omega) (by omega), show (0 : Int32) = nI 0 from rfl, nI_eq (by have := Nat.mod_lt 60 (show q > 0 by omega); omega) (by omega)] at h3
  exact (Nat.div_mul_cancel (Nat.dvd_of_mod_eq_zero h3)).symm
/-! admission -/
theorem sp_admit_bp {post : Int32 → St2 → Prop} {c d p : Int32} (hb : sp_bad p) (H : post (-1) (fc, ft, fp, fs, a1, a2, a3, a4, a5, a6, a7, a8, a9, a10)) : wpX_admit post (fc, ft, fp, fs, a1, a2, a3, a4, a5, a6, a7, a8, a9, a10) c d p := by
  unfold wpX_admit
  exact sp_badPeriod_1 hb (br_f (by decide) H)
def sp_cost (c d p : Int32) : Prop := c < 1 ∨ p < d ∨ d < 1 ∨ ¬ c ≤ d
theorem sp_admit_bc {post : Int32 → St2 → Prop} {c d p : Int32} (hb : ¬ sp_bad p) (hc : sp_cost c d p) (H : post (-2) (fc, ft, fp, fs, a1, a2, a3, a4, a5, a6, a7, a8, a9, a10)) : wpX_admit post (fc, ft, fp, fs, a1, a2, a3, a4, a5, a6, a7, a8, a9, a10) c d p := by
  unfold wpX_admit
  exact sp_badPeriod_0 hb (br_t rfl (br_c (fun _ => H) (fun h1 => br_c (fun _ => H) (fun h2 => br_c (fun _ => H) (fun h3 => br_c (fun _ => H) (fun h4 => br_c
    (fun h5 => hc.elim (fun z => absurd z h1) (fun z => z.elim (fun z => absurd z h4) (fun z => z.elim (fun z => absurd z h3) (fun z => absurd h5 z)))) (fun _ => H)))))))
theorem sp_admit_ok {post : Int32 → St2 → Prop} {c d p : Nat} (hb : ¬ sp_bad (nI p)) (hp : 2 ≤ p) (hp' : p ≤ 60) (hc1 : 1 ≤ c) (hcd : c ≤ d) (hdp : d ≤ p) (hfc : ¬ fc ≤ 0) (h1 : a1 0 = 0) (h3 : ∀ k, k < 26 → a3 k = -1)
    (H : post 0 (fc, 0 + 1, -1, fs, upd a1 0 1, upd a2 0 (nI p), upd (upd (upd a3 0 0) 0 (-1)) 0 0, upd (upd a4 0 (nI c)) 0 (nI c), upd (upd a5 0 (nI d)) 0 (nI d), a6, a7, a8, a9, a10)) : wpX_admit post (fc, 0, fp, fs, a1, a2, a3, a4, a5, a6, a7, a8, a9, a10) (nI c) (nI d) (nI p) := by
  unfold wpX_admit
  refine sp_badPeriod_0 hb (br_t rfl ?_)
  refine pk_lt c 1 (fun z => absurd z (by omega)) (fun _ => pk_lt p c (fun z => absurd z (by omega)) (fun _ => pk_lt d 1 (fun z => absurd z (by omega)) (fun _ => pk_lt p d (fun z => absurd z (by omega)) (fun _ => pk_le c d (fun _ => ?_) (fun z => absurd z (by omega))))))
  refine br_t (by decide) (sp_freeId h1 ⟨pk_in 0 13 (by omega), nm_e ?_⟩)
  rw [sp_c0]
  refine sp_placeWhole rfl hfc (fun k hk hk' => ?_) pk_us (by omega) hp' (by omega) (by omega) hcd (by omega) (nm_e ⟨1, ?_⟩)
  · rw [h3 k hk']
    decide
  · have E : wX_admit_107 post 0 1 fc 0 fp fs a1 (upd a2 0 (nI p)) (upd (upd (upd a3 0 0) 0 (-1)) 0 0) (upd (upd a4 0 (nI c)) 0 (nI c)) (upd (upd a5 0 (nI d)) 0 (nI d)) a6 a7 a8 a9 a10 := by
      refine br_f (by decide) ⟨pk_in 0 13 (by omega), nm_e (nm_e ?_)⟩
      rw [sp_c0]
      exact H
    exact br_c (fun _ => E) (fun _ => br_f (by decide) E)
end
end
section
section
variable {fc ft fp fs : Int32} {a1 a2 a3 a4 a5 a6 a7 a8 a9 a10 : Nat → Int32}
/-! one stretch -/
theorem sp_st_rest {post : Int32 → St2 → Prop} {x now best next : Int32} {k0 : Nat} (h3 : ∀ k, k0 ≤ k → k < 26 → ¬ a3 k = x)
    (H : (best < 0 → wX_stretch_187 post now best next fc ft fp fs a1 a2 a3 a4 a5 a6 a7 a8 a9 a10) ∧ (¬ best < 0 → (vp_in best 26 ∧ ((next ≤ now + a8 best.toNatClampNeg → wX_stretch_187 post now best next fc ft fp fs a1 a2 a3 a4 a5 a6 a7 a8 a9 a10) ∧ (¬ next ≤ now + a8 best.toNatClampNeg → (vp_in best 26 ∧ (∀ x5_49 : Int32, x5_49 = now + a8 best.toNatClampNeg → wX_stretch_187 post now best x5_49 fc ft fp fs a1 a2 a3 a4 a5 a6 a7 a8 a9 a10))))))) :
    ∀ n k, k ≤ 26 → k0 ≤ k → 26 - k < n → wX_stretch_9 post x now fc ft fp fs a1 a2 a3 a4 a5 a6 a7 a8 a9 a10 n best next (nI k) := by
  intro n
  induction n with
  | zero => intro k _ _ h; omega
  | succ n ih =>
    intro k hk h0 hn
    refine pk_le 26 k (fun _ => H) (fun hlt => ⟨pk_in k 26 hlt, ?_⟩)
    rw [nI_clamp (show k < 2 ^ 31 by omega)]
    exact br_f (h3 k h0 hlt) (nm_r (nI_1 k) (ih (k + 1) (by omega) (by omega) (by omega)))
/-- the core rests until w -/
theorem sp_st_187 {post : Int32 → St2 → Prop} {now w : Int32} {j : Nat} (hj : j < 64) (H : post w (fc, ft, fp, nI (j + 1), a1, a2, a3, a4, a5, upd a6 j w, upd a7 j (-5), a8, a9, a10)) : wX_stretch_187 post now (-1) w fc ft fp (nI j) a1 a2 a3 a4 a5 a6 a7 a8 a9 a10 := by
  refine ⟨pk_in j 64 hj, nm_e (br_f (by decide) ⟨pk_in j 64 hj, nm_e (nm_r (nI_1 j) (br_t (by decide) ?_))⟩)⟩
  rw [nI_clamp (show j < 2 ^ 31 by omega)]
  exact H
theorem sp_st_none {post : Int32 → St2 → Prop} {x now : Int32} {j : Nat} (hj : j < 64) (h3 : ∀ k, k < 26 → ¬ a3 k = x) (H : post 60 (fc, ft, fp, nI (j + 1), a1, a2, a3, a4, a5, upd a6 j 60, upd a7 j (-5), a8, a9, a10)) : wpX_stretch post (fc, ft, fp, nI j, a1, a2, a3, a4, a5, a6, a7, a8, a9, a10) x now :=
  ⟨27, sp_st_rest (k0 := 0) (fun k _ h => h3 k h) (br_t (by decide) (sp_st_187 hj H)) 27 0 (by omega) (by omega) (by omega)⟩
/-- a job waits for its release at w -/
theorem sp_st_wait {post : Int32 → St2 → Prop} {x : Int32} {j c p now w : Nat} (hj : j < 64) (h0 : a3 0 = x) (h3 : ∀ k, 1 ≤ k → k < 26 → ¬ a3 k = x) (h2 : a2 0 = nI p) (hp : p ≤ 60) (hc : 1 ≤ c) (hcp : c ≤ 60) (hw : w ≤ 60) (hn : now < w) (h9 : a9 0 = nI w) (h8 : a8 0 = nI (if w < 60 then c else 0))
    (H : post (nI w) (fc, ft, fp, nI (j + 1), a1, a2, a3, a4, a5, upd a6 j (nI w), upd a7 j (-5), a8, a9, a10)) : wpX_stretch post (fc, ft, fp, nI j, a1, a2, a3, a4, a5, a6, a7, a8, a9, a10) x (nI now) := by
  have R : wX_stretch_9 post x (nI now) fc ft fp (nI j) a1 a2 a3 a4 a5 a6 a7 a8 a9 a10 27 (-1) (nI w) (nI 1) :=
    sp_st_rest (k0 := 1) h3 (br_t (by decide) (sp_st_187 hj H)) 27 1 (by omega) (by omega) (by omega)
  refine ⟨28, br_f (by decide) ⟨pk_in 0 26 (by omega), ?_⟩⟩
  rw [sp_c0]
  refine br_t h0 ⟨pk_in 0 26 (by omega), ?_⟩
  by_cases hlt : w < 60
  · rw [if_pos hlt] at h8
    rw [h8, h9]
    refine pk_le c 0 (fun z => absurd z (by omega)) (fun _ => ⟨pk_in 0 26 (by omega), pk_le w now (fun z => absurd z (by omega)) (fun _ => ⟨pk_in 0 26 (by omega), pk_le 60 w (fun z => absurd z (by omega)) (fun _ => ⟨pk_in 0 26 (by omega), ?_⟩)⟩)⟩)
    rw [sp_c0, h8, h9]
    exact pk_le c 0 (fun z => absurd z (by omega)) (fun _ => ⟨pk_in 0 26 (by omega), pk_lt now w (fun _ => nm_r (nI_1 0) R) (fun z => absurd z (by omega))⟩)
  · rw [if_neg hlt] at h8
    have ew : w = 60 := by omega
    subst ew
    rw [h8]
    refine br_t (by decide) ⟨pk_in 0 26 (by omega), by decide, pk_in 0 13 (by omega), ?_⟩
    rw [sp_hc, sp_c0, h9, h2, nI_add]
    refine pk_le 60 (60 + p) (fun _ => ⟨pk_in 0 26 (by omega), ?_⟩) (fun z => absurd z (by omega))
    rw [sp_c0, h8]
    exact br_t (by decide) (nm_r (nI_1 0) R)
/-- the job of part 0 gets the slots that it wants -/
theorem sp_adv_51 {post : St2 → Prop} {c p r : Nat} (h2 : a2 0 = nI p) (h4 : a4 0 = nI c) (h9 : a9 0 = nI r) (hr : r + p ≤ 60)
    (H : ∀ b8 b9 : Nat → Int32, b8 0 = nI (if r + p < 60 then c else 0) → b9 0 = nI (r + p) → post (fc, ft, fp, fs, a1, a2, a3, a4, a5, a6, a7, b8, b9, a10)) : wX_advance_51 post 0 fc ft fp fs a1 a2 a3 a4 a5 a6 a7 a8 a9 a10 := by
  refine ⟨pk_in 0 26 (by omega), by decide, pk_in 0 13 (by omega), pk_in 0 26 (by omega), nm_e ⟨pk_in 0 26 (by omega), ?_⟩⟩
  rw [sp_hc, sp_c0, pk_us, h9, h2, nI_add]
  refine pk_le 60 (r + p) (fun h => ⟨pk_in 0 26 (by omega), nm_e (H _ _ ?_ pk_us)⟩) (fun h => ⟨pk_in 0 26 (by omega), pk_in 0 26 (by omega), nm_e (H _ _ ?_ pk_us)⟩)
  · rw [pk_us, if_neg (by omega)]
    rfl
  · rw [pk_us, if_pos h, h4]
theorem sp_adv {post : St2 → Prop} {c p r w : Nat} (h2 : a2 0 = nI p) (h4 : a4 0 = nI c) (h8 : a8 0 = nI c) (h9 : a9 0 = nI r) (h10 : a10 0 = nI w) (hr : r + p ≤ 60) (hw : w ≤ c) (hc : c ≤ 60)
    (H : ∀ b8 b9 b10 : Nat → Int32, b8 0 = nI (if r + p < 60 then c else 0) → b9 0 = nI (r + p) → b10 0 = nI c → post (fc, ft, fp, fs, a1, a2, a3, a4, a5, a6, a7, b8, b9, b10)) : wpX_advance post (fc, ft, fp, fs, a1, a2, a3, a4, a5, a6, a7, a8, a9, a10) 0 (nI r) (nI (r + c)) := by
  refine ⟨pk_in 0 26 (by omega), pk_in 0 26 (by omega), nm_e ⟨pk_in 0 26 (by omega), ?_⟩⟩
  rw [sp_c0, pk_us, h8, h9, h10, pk_sub (show r ≤ r + c by omega), show r + c - r = c by omega, pk_sub (Nat.le_refl c), Nat.sub_self]
  refine br_t (by decide) ⟨pk_in 0 26 (by omega), nm_e ⟨pk_in 0 26 (by omega), ?_⟩⟩
  refine pk_le c w (fun h => sp_adv_51 h2 h4 h9 hr (fun b8 b9 e8 e9 => H b8 b9 a10 e8 e9 ?_)) (fun h => ⟨pk_in 0 26 (by omega), nm_e (sp_adv_51 h2 h4 h9 hr (fun b8 b9 e8 e9 => H b8 b9 _ e8 e9 pk_us))⟩)
  rw [h10, show w = c by omega]
theorem sp_st_run {post : Int32 → St2 → Prop} {x : Int32} {j c p r w : Nat} (hj : j < 64) (h0 : a3 0 = x) (h3 : ∀ k, 1 ≤ k → k < 26 → ¬ a3 k = x) (h2 : a2 0 = nI p) (h4 : a4 0 = nI c) (hc : 1 ≤ c) (hcp : c ≤ p) (hr : r + p ≤ 60) (h8 : a8 0 = nI c) (h9 : a9 0 = nI r) (h10 : a10 0 = nI w) (hw : w ≤ c)
    (H : ∀ b8 b9 b10 : Nat → Int32, b8 0 = nI (if r + p < 60 then c else 0) → b9 0 = nI (r + p) → b10 0 = nI c → post (nI (r + c)) (fc, ft, fp, nI (j + 1), a1, a2, a3, a4, a5, upd a6 j (nI (r + c)), upd a7 j 0, b8, b9, b10)) : wpX_stretch post (fc, ft, fp, nI j, a1, a2, a3, a4, a5, a6, a7, a8, a9, a10) x (nI r) := by
  have S : wX_stretch_187 post (nI r) 0 (nI (r + c)) fc ft fp (nI j) a1 a2 a3 a4 a5 a6 a7 a8 a9 a10 := by
    refine ⟨pk_in j 64 hj, nm_e (br_t (by decide) ⟨by decide, pk_in j 64 hj, nm_e (nm_r (nI_1 j) (br_f (by decide) ?_))⟩)⟩
    rw [nI_clamp (show j < 2 ^ 31 by omega), sp_h0]
    exact sp_adv h2 h4 h8 h9 h10 hr hw (by omega) H
  have R : wX_stretch_9 post x (nI r) fc ft fp (nI j) a1 a2 a3 a4 a5 a6 a7 a8 a9 a10 27 0 (nI (r + p)) (nI 1) := by
    refine sp_st_rest (k0 := 1) h3 (br_f (by decide) ⟨pk_in 0 26 (by omega), ?_⟩) 27 1 (by omega) (by omega) (by omega)
    rw [sp_c0, h8, nI_add]
    refine pk_le (r + p) (r + c) (fun h => ?_) (fun h => ⟨pk_in 0 26 (by omega), nm_e S⟩)
    rw [show r + p = r + c by omega]
    exact S
  refine ⟨28, br_f (by decide) ⟨pk_in 0 26 (by omega), ?_⟩⟩
  rw [sp_c0]
  refine br_t h0 ⟨pk_in 0 26 (by omega), ?_⟩
  rw [h8, h9]
  refine pk_le c 0 (fun z => absurd z (by omega)) (fun _ => ⟨pk_in 0 26 (by omega), pk_le r r (fun _ => ⟨pk_in 0 26 (by omega), by decide, pk_in 0 13 (by omega), ?_⟩) (fun z => absurd z (by omega))⟩)
  rw [sp_hc, sp_c0, h9, h2, nI_add]
  have T : ∀ q : Nat, q = r + p → wX_stretch_91 post (wX_stretch_9 post x (nI r) fc ft fp (nI j) a1 a2 a3 a4 a5 a6 a7 a8 a9 a10 27) x (nI r) (-1) (nI q) 0 fc ft fp (nI j) a1 a2 a3 a4 a5 a6 a7 a8 a9 a10 := by
    intro q hq
    subst hq
    refine ⟨pk_in 0 26 (by omega), ?_⟩
    rw [sp_c0, h8, h9]
    exact pk_le c 0 (fun z => absurd z (by omega)) (fun _ => ⟨pk_in 0 26 (by omega), pk_lt r r (fun z => absurd z (by omega)) (fun _ => br_t (by decide) (nm_r (nI_1 0) R))⟩)
  exact pk_le 60 (r + p) (fun h => T 60 (by omega)) (fun h => T _ rfl)
/-! the plan -/
theorem sp_plan_21 {post : St2 → Prop} {x z : Int32} (hz : (a3 0 = x → a4 0 = z) ∧ (¬ a3 0 = x → 0 = z))
    (H : ∀ b8 b9 b10 : Nat → Int32, b8 0 = z → b9 0 = 0 → b10 0 = 0 → ∃ fu, wX_plan_77 post x fu 0 0 fc ft fp fs a1 a2 a3 a4 a5 a6 a7 b8 b9 b10) :
    ∀ n k (b8 b9 b10 : Nat → Int32), k ≤ 26 → 26 - k < n → (0 < k → b8 0 = z ∧ b9 0 = 0 ∧ b10 0 = 0) → wX_plan_21 post x fc ft fp fs n (nI k) a1 a2 a3 a4 a5 a6 a7 b8 b9 b10 := by
  intro n
  induction n with
  | zero => intro k _ _ _ _ h; omega
  | succ n ih =>
    intro k b8 b9 b10 hk hn hb
    have T : ∀ y : Int32, k < 26 → (k = 0 → y = z) → wX_plan_52 post (wX_plan_21 post x fc ft fp fs n) x (nI k) y (nI k) fc ft fp fs a1 a2 a3 a4 a5 a6 a7 b8 b9 b10 := by
      intro y hlt hy
      refine ⟨pk_in k 26 hlt, nm_e ⟨pk_in k 26 hlt, nm_e ⟨pk_in k 26 hlt, nm_e (nm_r (nI_1 k) ?_)⟩⟩⟩
      rw [nI_clamp (show k < 2 ^ 31 by omega)]
      refine ih (k + 1) _ _ _ (by omega) (by omega) (fun _ => ?_)
      by_cases e : k = 0
      · subst e
        exact ⟨by rw [pk_us, hy rfl], pk_us, pk_us⟩
      · rw [pk_un (by omega), pk_un (by omega), pk_un (by omega)]
        exact hb (by omega)
    refine pk_le 26 k (fun h => ?_) (fun hlt => ⟨pk_in k 26 hlt, ?_⟩)
    · obtain ⟨e8, e9, e10⟩ := hb (by omega)
      exact H b8 b9 b10 e8 e9 e10
    · rw [nI_clamp (show k < 2 ^ 31 by omega)]
      refine br_c (fun h => ⟨pk_in k 26 hlt, T _ hlt (fun e => ?_)⟩) (fun h => T _ hlt (fun e => ?_))
      · subst e
        exact hz.1 h
      · subst e
        exact hz.2 h
/-- no part on this core -/
theorem sp_plan_none {post : St2 → Prop} {x : Int32} (h3 : ∀ k, k < 26 → ¬ a3 k = x) (hp : ¬ fp = x) (H : ∀ b6 b7 b8 b9 b10 : Nat → Int32, b7 0 = -5 → post (fc, ft, x, nI 1, a1, a2, a3, a4, a5, b6, b7, b8, b9, b10)) : wpX_plan post (fc, ft, fp, fs, a1, a2, a3, a4, a5, a6, a7, a8, a9, a10) x := by
  refine br_f hp ⟨27, ?_⟩
  refine sp_plan_21 (z := 0) (br_f (h3 0 (by omega)) rfl) (fun b8 b9 b10 e8 e9 e10 => ⟨2, br_f (by decide) (br_f (by decide) ?_)⟩) 27 0 a8 a9 a10 (by omega) (by omega) (fun z => absurd z (by omega))
  refine sp_st_none (j := 0) (by omega) h3 (nm_r (nI_1 0) ?_)
  exact br_f (by decide) (br_t (by decide) (H _ _ _ _ _ pk_us))
/-- one part: where the job of part 0 stands at 'now' -/
def sp_J (c p now : Nat) (a8 a9 a10 : Nat → Int32) : Prop :=
  (now = 60 ∨ (∃ m, now = m * p ∧ m * p + p ≤ 60 ∧ a9 0 = nI (m * p) ∧ a8 0 = nI c) ∨ (∃ m, now = m * p + c ∧ c < p ∧ m * p + p ≤ 60 ∧ a9 0 = nI (m * p + p) ∧ a8 0 = nI (if m * p + p < 60 then c else 0))) ∧ ∃ w, w ≤ c ∧ a10 0 = nI w ∧ (now = 0 ∨ w = c)
theorem sp_plan_77 {post : St2 → Prop} {x : Int32} {c p K : Nat} (h0 : a3 0 = x) (h3 : ∀ k, 1 ≤ k → k < 26 → ¬ a3 k = x) (h2 : a2 0 = nI p) (h4 : a4 0 = nI c) (hc : 1 ≤ c) (hcp : c ≤ p) (hK : 60 = K * p)
    (H : ∀ (S : Nat) (b6 b7 b8 b9 b10 : Nat → Int32), 1 ≤ S → S ≤ 60 → sp_G c p 60 S b6 b7 → b10 0 = nI c → post (fc, ft, fp, nI S, a1, a2, a3, a4, a5, b6, b7, b8, b9, b10)) :
    ∀ n now j (b6 b7 b8 b9 b10 : Nat → Int32), now ≤ 60 → 60 - now < n → j ≤ now → sp_G c p now j b6 b7 → sp_J c p now b8 b9 b10 → wX_plan_77 post x n (nI now) (nI j) fc ft fp (nI j) a1 a2 a3 a4 a5 b6 b7 b8 b9 b10 := by
  intro n
  induction n with
  | zero => intro now j _ _ _ _ _ _ h; omega
  | succ n ih =>
    intro now j b6 b7 b8 b9 b10 hnow hn hj hG hJ
    obtain ⟨hJ, w, hw, h10, hw2⟩ := hJ
    have D : now = 60 → post (fc, ft, fp, nI j, a1, a2, a3, a4, a5, b6, b7, b8, b9, b10) := by
      intro e
      subst e
      refine H j b6 b7 b8 b9 b10 ?_ hj hG ?_
      · obtain ⟨e, e0, ej, _⟩ := hG
        rcases Nat.eq_zero_or_pos j with z | z
        · subst z
          omega
        · exact z
      · rw [h10, show w = c by omega]
    refine pk_le 60 j (fun h => D (by omega)) (fun hj60 => pk_le 60 now (fun h => D (by omega)) (fun hlt => ?_))
    rcases hJ with e | ⟨m, em, hm, h9, h8⟩ | ⟨m, em, hcp', hm, h9, h8⟩
    · omega
    · rw [em]
      refine sp_st_run (by omega) h0 h3 h2 h4 hc hcp hm h8 h9 h10 hw (fun d8 d9 d10 e8 e9 e10 => nm_r (nI_1 j) ?_)
      refine ih (m * p + c) (j + 1) _ _ _ _ _ (by omega) (by omega) (by omega) (sp_Gs hG (by omega) (fun t ht ht' => ?_)) ⟨?_, c, Nat.le_refl c, e10, Or.inr rfl⟩
      · unfold sp_run
        rw [if_pos (by rw [sp_mod (m := m) (by omega) (by omega)]; omega)]
      · by_cases hcc : c < p
        · exact Or.inr (Or.inr ⟨m, rfl, hcc, hm, e9, e8⟩)
        · have ec : c = p := by omega
          by_cases h60 : m * p + p < 60
          · refine Or.inr (Or.inl ⟨m + 1, ?_⟩)
            have hs : (m + 1) * p = m * p + p := by rw [Nat.add_mul, Nat.one_mul]
            have hx := sp_next (m := m + 1) (p := p) (K := K) (by omega)
            rw [if_pos h60] at e8
            rw [hs] at hx ⊢
            exact ⟨by omega, by omega, e9, e8⟩
          · exact Or.inl (by omega)
    · rw [em]
      refine sp_st_wait (c := c) (p := p) (w := m * p + p) (by omega) h0 h3 h2 (by omega) hc (by omega) hm (by omega) h9 h8 (nm_r (nI_1 j) ?_)
      refine ih (m * p + p) (j + 1) _ _ _ _ _ (by omega) (by omega) (by omega) (sp_Gs hG (by omega) (fun t ht ht' => ?_)) ⟨?_, w, hw, h10, by omega⟩
      · unfold sp_run
        rw [if_neg (by rw [sp_mod (m := m) (by omega) (by omega)]; omega)]
      · by_cases h60 : m * p + p < 60
        · refine Or.inr (Or.inl ⟨m + 1, ?_⟩)
          have hs : (m + 1) * p = m * p + p := by rw [Nat.add_mul, Nat.one_mul]
          have hx := sp_next (m := m + 1) (p := p) (K := K) (by omega)
          rw [if_pos h60] at h8
          rw [hs] at hx ⊢
          exact ⟨rfl, by omega, h9, h8⟩
        · exact Or.inl (by omega)
theorem sp_plan_one {post : St2 → Prop} {x : Int32} {c p K : Nat} (h0 : a3 0 = x) (h3 : ∀ k, 1 ≤ k → k < 26 → ¬ a3 k = x) (h2 : a2 0 = nI p) (h4 : a4 0 = nI c) (hc : 1 ≤ c) (hcp : c ≤ p) (hp60 : p ≤ 60) (hK : 60 = K * p) (hp : ¬ fp = x)
    (H : ∀ (S : Nat) (b6 b7 b8 b9 b10 : Nat → Int32), 1 ≤ S → S ≤ 60 → sp_G c p 60 S b6 b7 → b10 0 = nI c → post (fc, ft, x, nI S, a1, a2, a3, a4, a5, b6, b7, b8, b9, b10)) : wpX_plan post (fc, ft, fp, fs, a1, a2, a3, a4, a5, a6, a7, a8, a9, a10) x := by
  refine br_f hp ⟨27, ?_⟩
  refine sp_plan_21 (z := nI c) (br_t h0 h4) (fun b8 b9 b10 e8 e9 e10 => ⟨61, ?_⟩) 27 0 a8 a9 a10 (by omega) (by omega) (fun z => absurd z (by omega))
  refine sp_plan_77 h0 h3 h2 h4 hc hcp hK H 61 0 0 a6 a7 b8 b9 b10 (by omega) (by omega) (by omega) (sp_G0 c p a6 a7) ⟨Or.inr (Or.inl ⟨0, ?_, ?_, ?_, e8⟩), 0, by omega, e10, Or.inl rfl⟩
  · omega
  · omega
  · rw [Nat.zero_mul]
    exact e9
end
end
section
section
variable {fc ft fp fs : Int32} {a1 a2 a3 a4 a5 a6 a7 a8 a9 a10 : Nat → Int32}
theorem sp_core_far {post : Int32 → Prop} {x : Int32} (hf : x < 0 ∨ ¬ x < fc) (H : post 1) : wpX_badCore post (fc, ft, fp, fs, a1, a2, a3, a4, a5, a6, a7, a8, a9, a10) x :=
  br_c (fun _ => H) (fun h0 => br_c (fun h1 => hf.elim (fun z => absurd z h0) (fun z => absurd h1 z)) (fun _ => H))
theorem sp_core_ok {post : Int32 → Prop} {x : Int32} (h0 : ¬ x < 0) (h1 : x < fc) (H : post 0) : wpX_badCore post (fc, ft, fp, fs, a1, a2, a3, a4, a5, a6, a7, a8, a9, a10) x :=
  br_f h0 (br_t h1 H)
/-- x is no task in use -/
theorem sp_no_1 {post : Int32 → Prop} {x : Int32} (h : ∀ k, x = nI k → k < 12 → a1 k = 0) (H : post 1) : wpX_noTask post (fc, ft, fp, fs, a1, a2, a3, a4, a5, a6, a7, a8, a9, a10) x := by
  refine br_c (fun _ => H) (fun h0 => br_c (fun _ => H) (fun h12 => ?_))
  obtain ⟨k, _, hk, rfl⟩ := sp_nat (x := x) (a := 0) (b := 12) (by omega) (by omega) h0 (Int32.le_of_lt (sp_le_lt h12))
  have hk' : k < 12 := by
    rcases Nat.lt_or_ge k 12 with z | z
    · exact z
    · exact absurd (nI_le z (by omega)) h12
  refine ⟨pk_in k 13 (by omega), ?_⟩
  rw [nI_clamp (show k < 2 ^ 31 by omega)]
  exact br_t (h k rfl hk') H
theorem sp_no_0 {post : Int32 → Prop} (h : ¬ a1 0 = 0) (H : post 0) : wpX_noTask post (fc, ft, fp, fs, a1, a2, a3, a4, a5, a6, a7, a8, a9, a10) 0 := by
  refine br_f (by decide) (br_f (by decide) ⟨pk_in 0 13 (by omega), ?_⟩)
  rw [sp_c0]
  exact br_f h H
/-! load -/
theorem sp_ld_far {post : Int32 → Prop} {x : Int32} (hf : x < 0 ∨ ¬ x < fc) (H : post (-6)) : wpX_load post (fc, ft, fp, fs, a1, a2, a3, a4, a5, a6, a7, a8, a9, a10) x := by
  unfold wpX_load
  exact sp_core_far hf (br_f (by decide) H)
theorem sp_ld_none {post : Int32 → Prop} {x : Int32} (h0 : ¬ x < 0) (h1 : x < fc) (h3 : ∀ k, k < 26 → ¬ a3 k = x) (H : post 0) : wpX_load post (fc, ft, fp, fs, a1, a2, a3, a4, a5, a6, a7, a8, a9, a10) x := by
  unfold wpX_load
  exact sp_core_ok h0 h1 (br_t rfl (sp_load_none h3 H))
theorem sp_ld_one {post : Int32 → Prop} {x : Int32} {c p : Nat} (h0 : ¬ x < 0) (h1 : x < fc) (e3 : a3 0 = x) (h3 : ∀ k, 1 ≤ k → k < 26 → ¬ a3 k = x) (h2 : a2 0 = nI p) (h4 : a4 0 = nI c) (hp : 1 ≤ p) (hp' : p ≤ 60) (H : post (nI (c * (60 / p)))) : wpX_load post (fc, ft, fp, fs, a1, a2, a3, a4, a5, a6, a7, a8, a9, a10) x := by
  unfold wpX_load
  exact sp_core_ok h0 h1 (br_t rfl (sp_load_one e3 h3 h2 h4 hp hp' H))
/-! running -/
theorem sp_rn_far {post : Int32 → St2 → Prop} {x y : Int32} (hf : x < 0 ∨ ¬ x < fc) (H : post (-6) (fc, ft, fp, fs, a1, a2, a3, a4, a5, a6, a7, a8, a9, a10)) : wpX_running post (fc, ft, fp, fs, a1, a2, a3, a4, a5, a6, a7, a8, a9, a10) x y := by
  unfold wpX_running
  exact sp_core_far hf (br_f (by decide) H)
theorem sp_rn_time {post : Int32 → St2 → Prop} {x y : Int32} (h0 : ¬ x < 0) (h1 : x < fc) (hy : y < 0 ∨ ¬ y < 60) (H : post (-7) (fc, ft, fp, fs, a1, a2, a3, a4, a5, a6, a7, a8, a9, a10)) : wpX_running post (fc, ft, fp, fs, a1, a2, a3, a4, a5, a6, a7, a8, a9, a10) x y := by
  unfold wpX_running
  exact sp_core_ok h0 h1 (br_t rfl (br_c (fun _ => H) (fun z0 => br_c (fun z1 => hy.elim (fun z => absurd z z0) (fun z => absurd z1 z)) (fun _ => H))))
theorem sp_rn_none {post : Int32 → St2 → Prop} {x y : Int32} (h0 : ¬ x < 0) (h1 : x < fc) (hy : ¬ y < 0) (hy' : y < 60) (h3 : ∀ k, k < 26 → ¬ a3 k = x) (hp : ¬ fp = x)
    (H : ∀ b6 b7 b8 b9 b10 : Nat → Int32, post (-5) (fc, ft, x, nI 1, a1, a2, a3, a4, a5, b6, b7, b8, b9, b10)) : wpX_running post (fc, ft, fp, fs, a1, a2, a3, a4, a5, a6, a7, a8, a9, a10) x y := by
  unfold wpX_running
  refine sp_core_ok h0 h1 (br_t rfl (br_f hy (br_t hy' ?_)))
  refine sp_plan_none h3 hp (fun b6 b7 b8 b9 b10 e7 => ⟨1, br_t (by decide) ⟨pk_in 0 64 (by omega), ?_⟩⟩)
  rw [sp_c0, e7]
  exact H b6 b7 b8 b9 b10
theorem sp_rn_31 {post : Int32 → St2 → Prop} {e : Nat → Nat} {S s : Nat} {c p : Nat} (hS : S ≤ 60) (hs : s < 60) (eS : e S = 60) (he : ∀ k, k < S → e (k + 1) ≤ 60 ∧ a6 k = nI (e (k + 1)) ∧ ∀ t, e k ≤ t → t < e (k + 1) → a7 k = sp_run c p t)
    (H : post (sp_run c p s) (fc, ft, fp, nI S, a1, a2, a3, a4, a5, a6, a7, a8, a9, a10)) : ∀ n k, k < S → e k ≤ s → S - k ≤ n → wX_running_31 post (nI s) fc ft fp (nI S) a1 a2 a3 a4 a5 a6 a7 a8 a9 a10 n (nI k) := by
  intro n
  induction n with
  | zero => intro k _ _ h; omega
  | succ n ih =>
    intro k hk hek hn
    obtain ⟨e60, e6, e7⟩ := he k hk
    have A : s < e (k + 1) → vp_in (nI k) 64 ∧ post (a7 (nI k).toNatClampNeg) (fc, ft, fp, nI S, a1, a2, a3, a4, a5, a6, a7, a8, a9, a10) := by
      intro h
      refine ⟨pk_in k 64 (by omega), ?_⟩
      rw [nI_clamp (show k < 2 ^ 31 by omega), e7 s hek h]
      exact H
    refine pk_le (S - 1) k (fun h => A ?_) (fun h => ⟨pk_in k 64 (by omega), ?_⟩) (pk_sub (show 1 ≤ S by omega))
    · rw [show k + 1 = S by omega, eS]
      exact hs
    · refine pk_lt s (e (k + 1)) (fun h => A h) (fun h2 => nm_r (nI_1 k) (ih (k + 1) (by omega) h2 (by omega))) rfl ?_
      rw [nI_clamp (show k < 2 ^ 31 by omega), e6]
theorem sp_rn_one {post : Int32 → St2 → Prop} {x : Int32} {c p K s : Nat} (h0 : ¬ x < 0) (h1 : x < fc) (hs : s < 60) (e3 : a3 0 = x) (h3 : ∀ k, 1 ≤ k → k < 26 → ¬ a3 k = x) (h2 : a2 0 = nI p) (h4 : a4 0 = nI c) (hc : 1 ≤ c) (hcp : c ≤ p) (hp60 : p ≤ 60) (hK : 60 = K * p) (hp : ¬ fp = x)
    (H : ∀ (S : Nat) (b6 b7 b8 b9 b10 : Nat → Int32), b10 0 = nI c → post (sp_run c p s) (fc, ft, x, nI S, a1, a2, a3, a4, a5, b6, b7, b8, b9, b10)) : wpX_running post (fc, ft, fp, fs, a1, a2, a3, a4, a5, a6, a7, a8, a9, a10) x (nI s) := by
  unfold wpX_running
  refine sp_core_ok h0 h1 (br_t rfl (br_f (nI_pos (by omega)) (br_t (nI_lt (b := 60) hs (by omega)) ?_)))
  refine sp_plan_one e3 h3 h2 h4 hc hcp hp60 hK hp (fun S b6 b7 b8 b9 b10 hS hS' hG e10 => ?_)
  obtain ⟨e, e0, eS, he⟩ := hG
  exact ⟨S, sp_rn_31 hS' hs eS he (H S b6 b7 b8 b9 b10 e10) S 0 (by omega) (by omega) (by omega)⟩
/-! response of task 0 -/
theorem sp_rs_far {post : Int32 → St2 → Prop} {x : Int32} (hf : x < 0 ∨ ¬ x < fc) (H : post (-6) (fc, ft, fp, fs, a1, a2, a3, a4, a5, a6, a7, a8, a9, a10)) : wpX_response post (fc, ft, fp, fs, a1, a2, a3, a4, a5, a6, a7, a8, a9, a10) x 0 := by
  unfold wpX_response
  exact sp_core_far hf (br_f (by decide) H)
theorem sp_rs_none {post : Int32 → St2 → Prop} {x : Int32} (h0 : ¬ x < 0) (h1 : x < fc) (h3 : ∀ k, k < 26 → ¬ a3 k = x)
    (H : ∀ (gp gs : Int32) (b6 b7 b8 b9 b10 : Nat → Int32), post (-5) (fc, ft, gp, gs, a1, a2, a3, a4, a5, b6, b7, b8, b9, b10)) : wpX_response post (fc, ft, fp, fs, a1, a2, a3, a4, a5, a6, a7, a8, a9, a10) x 0 := by
  unfold wpX_response
  refine sp_core_ok h0 h1 (br_t rfl ?_)
  by_cases hu : a1 0 = 0
  · refine sp_no_1 (fun k e hk => ?_) (br_f (by decide) (H fp fs a6 a7 a8 a9 a10))
    have hk0 : 0 = k := (nI_eq (by omega) (by omega)).mp e
    rw [← hk0]
    exact hu
  · refine sp_no_0 hu (br_t rfl ?_)
    have E : ∀ (gp gs : Int32) (b6 b7 b8 b9 b10 : Nat → Int32), vp_in ((2 : Int32) * 0) 26 ∧ ((a3 ((2 : Int32) * 0).toNatClampNeg = x → (vp_in ((2 : Int32) * 0) 26 ∧ post (b10 ((2 : Int32) * 0).toNatClampNeg) (fc, ft, gp, gs, a1, a2, a3, a4, a5, b6, b7, b8, b9, b10))) ∧ (¬ a3 ((2 : Int32) * 0).toNatClampNeg = x → (vp_in (((2 : Int32) * 0) + 1) 26 ∧ ((a3 (((2 : Int32) * 0) + 1).toNatClampNeg = x → (vp_in (((2 : Int32) * 0) + 1) 26 ∧ post (b10 (((2 : Int32) * 0) + 1).toNatClampNeg) (fc, ft, gp, gs, a1, a2, a3, a4, a5, b6, b7, b8, b9, b10))) ∧ (¬ a3 (((2 : Int32) * 0) + 1).toNatClampNeg = x → post (-5) (fc, ft, gp, gs, a1, a2, a3, a4, a5, b6, b7, b8, b9, b10)))))) := by
      intro gp gs b6 b7 b8 b9 b10
      rw [sp_d1, sp_d0, sp_c0, nI_clamp (show 1 < 2 ^ 31 by omega)]
      exact ⟨pk_in 0 26 (by omega), br_f (h3 0 (by omega)) ⟨pk_in 1 26 (by omega), br_f (h3 1 (by omega)) (H gp gs b6 b7 b8 b9 b10)⟩⟩
    by_cases hp : fp = x
    · exact br_t hp (E fp fs a6 a7 a8 a9 a10)
    · exact sp_plan_none h3 hp (fun b6 b7 b8 b9 b10 _ => E x (nI 1) b6 b7 b8 b9 b10)
theorem sp_rs_one {post : Int32 → St2 → Prop} {x : Int32} {c p K : Nat} (h0 : ¬ x < 0) (h1 : x < fc) (hu : ¬ a1 0 = 0) (e3 : a3 0 = x) (h3 : ∀ k, 1 ≤ k → k < 26 → ¬ a3 k = x) (h2 : a2 0 = nI p) (h4 : a4 0 = nI c) (hc : 1 ≤ c) (hcp : c ≤ p) (hp60 : p ≤ 60) (hK : 60 = K * p) (hpl : fp = x → a10 0 = nI c)
    (H : ∀ (gp gs : Int32) (b6 b7 b8 b9 b10 : Nat → Int32), post (nI c) (fc, ft, gp, gs, a1, a2, a3, a4, a5, b6, b7, b8, b9, b10)) : wpX_response post (fc, ft, fp, fs, a1, a2, a3, a4, a5, a6, a7, a8, a9, a10) x 0 := by
  unfold wpX_response
  refine sp_core_ok h0 h1 (br_t rfl (sp_no_0 hu (br_t rfl ?_)))
  by_cases hp : fp = x
  · refine br_t hp ⟨pk_in 0 26 (by omega), ?_⟩
    rw [sp_d0, sp_c0, hpl hp]
    exact br_t e3 ⟨pk_in 0 26 (by omega), H fp fs a6 a7 a8 a9 a10⟩
  · refine sp_plan_one e3 h3 h2 h4 hc hcp hp60 hK hp (fun S b6 b7 b8 b9 b10 _ _ _ e10 => ⟨pk_in 0 26 (by omega), ?_⟩)
    rw [sp_d0, sp_c0, e10]
    exact br_t e3 ⟨pk_in 0 26 (by omega), H x (nI S) b6 b7 b8 b9 b10⟩
/-! remove -/
theorem sp_rm_no {post : Int32 → St2 → Prop} {x : Int32} (h : ∀ k, x = nI k → k < 12 → a1 k = 0) (H : post (-5) (fc, ft, fp, fs, a1, a2, a3, a4, a5, a6, a7, a8, a9, a10)) : wpX_remove post (fc, ft, fp, fs, a1, a2, a3, a4, a5, a6, a7, a8, a9, a10) x := by
  unfold wpX_remove
  exact sp_no_1 h (br_f (by decide) H)
theorem sp_rm_yes {post : Int32 → St2 → Prop} (hu : ¬ a1 0 = 0) (H : ∀ b1 b3 : Nat → Int32, post (ft - 1) (fc, ft - 1, -1, fs, b1, a2, b3, a4, a5, a6, a7, a8, a9, a10)) : wpX_remove post (fc, ft, fp, fs, a1, a2, a3, a4, a5, a6, a7, a8, a9, a10) 0 := by
  unfold wpX_remove
  exact sp_no_0 hu (br_t rfl ⟨pk_in 0 13 (by omega), nm_e ⟨pk_in 0 26 (by omega), nm_e ⟨pk_in 1 26 (by omega), nm_e (nm_e (H _ _))⟩⟩⟩)
end
end
section
section
variable {fc ft fp fs : Int32} {a1 a2 a3 a4 a5 a6 a7 a8 a9 a10 : Nat → Int32} {mc ms kc ks : Nat}
theorem sp_329 {z0 z1 : Int32} (h : z1 = z0) : wL_lawOf_329 (fun r _ => r = 1) mc ms z0 z1 kc ks := br_t h rfl
theorem sp_306_no {x4 z0 z1 : Int32} (hz : z1 = z0) (hu : ∀ k, x4 = nI k → k < 12 → a1 k = 0) : wL_lawOf_306 (fun r _ => r = 1) mc ms x4 0 z0 z1 kc ks fc ft fp fs a1 a2 a3 a4 a5 a6 a7 a8 a9 a10 :=
  br_t hz (sp_rm_no hu (br_t rfl (sp_329 rfl)))
theorem sp_306_yes {z0 z1 : Int32} (hz : z1 = z0) (hu : ¬ a1 0 = 0) : wL_lawOf_306 (fun r _ => r = 1) mc ms 0 1 z0 z1 kc ks fc (0 + 1) fp fs a1 a2 a3 a4 a5 a6 a7 a8 a9 a10 :=
  br_t hz (sp_rm_yes hu (fun b1 b3 => br_f (by decide) (sp_329 (by decide))))
/-! the core is out of range -/
theorem sp_272_far {x1 x4 z0 z1 : Int32} (hz : z1 = z0) (hf : x4 < 0 ∨ ¬ x4 < fc) (hu : ∀ k, x4 = nI k → k < 12 → a1 k = 0) : wL_lawOf_272 (fun r _ => r = 1) mc ms x1 x4 1 0 z0 z1 kc ks fc ft fp fs a1 a2 a3 a4 a5 a6 a7 a8 a9 a10 :=
  br_t hz (sp_rs_far hf (br_f (by decide) (sp_306_no rfl hu)))
theorem sp_251_far {x1 x4 x5 x12 : Int32} (hf : x4 < 0 ∨ ¬ x4 < fc) (hu : ∀ k, x4 = nI k → k < 12 → a1 k = 0) : wL_lawOf_251 (fun r _ => r = 1) mc ms x1 x4 x5 1 0 x12 kc ks fc ft fp fs a1 a2 a3 a4 a5 a6 a7 a8 a9 a10 := by
  unfold wL_lawOf_251
  exact sp_rn_far hf (br_f (by decide) (sp_272_far rfl hf hu))
theorem sp_199_far {x1 x3 x4 x5 x8 z0 z1 : Int32} (hz : z1 = z0) (hf : x4 < 0 ∨ ¬ x4 < fc) (hu : ∀ k, x4 = nI k → k < 12 → a1 k = 0) : wL_lawOf_199 (fun r _ => r = 1) mc ms x1 x3 x4 x5 x8 1 0 z0 z1 kc ks fc ft fp fs a1 a2 a3 a4 a5 a6 a7 a8 a9 a10 :=
  br_t hz (br_c (fun _ => sp_251_far hf hu) (fun _ => br_c (fun _ => sp_251_far hf hu) (fun _ => br_t rfl (sp_251_far hf hu))))
theorem sp_155_far {x1 x3 x4 x5 x8 : Int32} (hf : x4 < 0 ∨ ¬ x4 < fc) (hu : ∀ k, x4 = nI k → k < 12 → a1 k = 0) : wL_lawOf_155 (fun r _ => r = 1) mc ms x1 x3 x4 x5 x8 1 0 kc ks fc ft fp fs a1 a2 a3 a4 a5 a6 a7 a8 a9 a10 := by
  unfold wL_lawOf_155
  exact sp_ld_far hf (br_f (by decide) (sp_199_far rfl hf hu))
/-! a core without a part -/
theorem sp_272_none {x1 x4 z0 z1 : Int32} (hz : z1 = z0) (h0 : ¬ x4 < 0) (h1 : x4 < fc) (h3 : ∀ k, k < 26 → ¬ a3 k = x4) (hu : ∀ k, x4 = nI k → k < 12 → a1 k = 0) : wL_lawOf_272 (fun r _ => r = 1) mc ms x1 x4 0 0 z0 z1 kc ks fc ft fp fs a1 a2 a3 a4 a5 a6 a7 a8 a9 a10 :=
  br_t hz (sp_rs_none h0 h1 h3 (fun gp gs b6 b7 b8 b9 b10 => br_t rfl (br_t rfl (sp_306_no rfl hu))))
theorem sp_251_noneB {x1 x4 x5 : Int32} (h0 : ¬ x4 < 0) (h1 : x4 < fc) (h3 : ∀ k, k < 26 → ¬ a3 k = x4) (hu : ∀ k, x4 = nI k → k < 12 → a1 k = 0) (hy : x5 < 0 ∨ ¬ x5 < 60) : wL_lawOf_251 (fun r _ => r = 1) mc ms x1 x4 x5 0 0 (-7) kc ks fc ft fp fs a1 a2 a3 a4 a5 a6 a7 a8 a9 a10 := by
  unfold wL_lawOf_251
  exact sp_rn_time h0 h1 hy (br_t rfl (sp_272_none rfl h0 h1 h3 hu))
theorem sp_251_none {x1 x4 x5 : Int32} (h0 : ¬ x4 < 0) (h1 : x4 < fc) (h3 : ∀ k, k < 26 → ¬ a3 k = x4) (hu : ∀ k, x4 = nI k → k < 12 → a1 k = 0) (hp : ¬ fp = x4) (hy : ¬ x5 < 0) (hy' : x5 < 60) : wL_lawOf_251 (fun r _ => r = 1) mc ms x1 x4 x5 0 0 (-5) kc ks fc ft fp fs a1 a2 a3 a4 a5 a6 a7 a8 a9 a10 := by
  unfold wL_lawOf_251
  exact sp_rn_none h0 h1 hy hy' h3 hp (fun b6 b7 b8 b9 b10 => br_t rfl (sp_272_none rfl h0 h1 h3 hu))
theorem sp_199_none {x1 x3 x4 x5 x8 z0 z1 : Int32} (hz : z1 = z0) (h0 : ¬ x4 < 0) (h1 : x4 < fc) (h3 : ∀ k, k < 26 → ¬ a3 k = x4) (hu : ∀ k, x4 = nI k → k < 12 → a1 k = 0) (hp : ¬ fp = x4) : wL_lawOf_199 (fun r _ => r = 1) mc ms x1 x3 x4 x5 x8 0 0 z0 z1 kc ks fc ft fp fs a1 a2 a3 a4 a5 a6 a7 a8 a9 a10 :=
  br_t hz (br_c (fun h => sp_251_noneB h0 h1 h3 hu (Or.inl h)) (fun h => br_c (fun h2 => sp_251_noneB h0 h1 h3 hu (Or.inr (Int32.not_lt.mpr h2))) (fun h2 => br_t rfl (sp_251_none h0 h1 h3 hu hp h (sp_le_lt h2)))))
theorem sp_155_none {x1 x3 x4 x5 x8 : Int32} (h0 : ¬ x4 < 0) (h1 : x4 < fc) (h3 : ∀ k, k < 26 → ¬ a3 k = x4) (hu : ∀ k, x4 = nI k → k < 12 → a1 k = 0) (hp : ¬ fp = x4) : wL_lawOf_155 (fun r _ => r = 1) mc ms x1 x3 x4 x5 x8 0 0 kc ks fc ft fp fs a1 a2 a3 a4 a5 a6 a7 a8 a9 a10 := by
  unfold wL_lawOf_155
  exact sp_ld_none h0 h1 h3 (br_t rfl (br_t rfl (sp_199_none rfl h0 h1 h3 hu hp)))
end
section
variable {fc ft fp fs : Int32} {a1 a2 a3 a4 a5 a6 a7 a8 a9 a10 : Nat → Int32} {mc ms kc ks : Nat} {c p K : Nat}
/-! core 0 with the one part -/
theorem sp_272_here {z0 z1 : Int32} (hz : z1 = z0) (h1 : 0 < fc) (hu : ¬ a1 0 = 0) (e3 : a3 0 = 0) (h3 : ∀ k, 1 ≤ k → k < 26 → ¬ a3 k = 0) (h2 : a2 0 = nI p) (h4 : a4 0 = nI c) (hc : 1 ≤ c) (hcp : c ≤ p) (hp60 : p ≤ 60) (hK : 60 = K * p) (hpl : fp = 0 → a10 0 = nI c) : wL_lawOf_272 (fun r _ => r = 1) mc ms (nI c) 0 0 1 z0 z1 kc ks fc (0 + 1) fp fs a1 a2 a3 a4 a5 a6 a7 a8 a9 a10 :=
  br_t hz (sp_rs_one (by decide) h1 hu e3 h3 h2 h4 hc hcp hp60 hK hpl (fun gp gs b6 b7 b8 b9 b10 => br_t rfl (br_f (by decide) (sp_306_yes rfl hu))))
theorem sp_251_hereB {x5 : Int32} (h1 : 0 < fc) (hu : ¬ a1 0 = 0) (e3 : a3 0 = 0) (h3 : ∀ k, 1 ≤ k → k < 26 → ¬ a3 k = 0) (h2 : a2 0 = nI p) (h4 : a4 0 = nI c) (hc : 1 ≤ c) (hcp : c ≤ p) (hp60 : p ≤ 60) (hK : 60 = K * p) (hp : ¬ fp = 0) (hy : x5 < 0 ∨ ¬ x5 < 60) : wL_lawOf_251 (fun r _ => r = 1) mc ms (nI c) 0 x5 0 1 (-7) kc ks fc (0 + 1) fp fs a1 a2 a3 a4 a5 a6 a7 a8 a9 a10 := by
  unfold wL_lawOf_251
  exact sp_rn_time (by decide) h1 hy (br_t rfl (sp_272_here rfl h1 hu e3 h3 h2 h4 hc hcp hp60 hK (fun z => absurd z hp)))
theorem sp_251_here {s : Nat} {x12 : Int32} (h1 : 0 < fc) (hu : ¬ a1 0 = 0) (e3 : a3 0 = 0) (h3 : ∀ k, 1 ≤ k → k < 26 → ¬ a3 k = 0) (h2 : a2 0 = nI p) (h4 : a4 0 = nI c) (hc : 1 ≤ c) (hcp : c ≤ p) (hp60 : p ≤ 60) (hK : 60 = K * p) (hp : ¬ fp = 0) (hs : s < 60) (hx : sp_run c p s = x12) : wL_lawOf_251 (fun r _ => r = 1) mc ms (nI c) 0 (nI s) 0 1 x12 kc ks fc (0 + 1) fp fs a1 a2 a3 a4 a5 a6 a7 a8 a9 a10 := by
  unfold wL_lawOf_251
  exact sp_rn_one (by decide) h1 hs e3 h3 h2 h4 hc hcp hp60 hK hp (fun S b6 b7 b8 b9 b10 e10 => br_t rfl (sp_272_here hx h1 hu e3 h3 h2 h4 hc hcp hp60 hK (fun _ => e10)))
theorem sp_199_here {x5 z0 z1 : Int32} (hz : z1 = z0) (h1 : 0 < fc) (hu : ¬ a1 0 = 0) (e3 : a3 0 = 0) (h3 : ∀ k, 1 ≤ k → k < 26 → ¬ a3 k = 0) (h2 : a2 0 = nI p) (h4 : a4 0 = nI c) (hc : 1 ≤ c) (hcp : c ≤ p) (hp60 : p ≤ 60) (hK : 60 = K * p) (hp : ¬ fp = 0) : wL_lawOf_199 (fun r _ => r = 1) mc ms (nI c) (nI p) 0 x5 0 0 1 z0 z1 kc ks fc (0 + 1) fp fs a1 a2 a3 a4 a5 a6 a7 a8 a9 a10 := by
  refine br_t hz (br_c (fun h => sp_251_hereB h1 hu e3 h3 h2 h4 hc hcp hp60 hK hp (Or.inl h)) (fun h => br_c (fun h2' => sp_251_hereB h1 hu e3 h3 h2 h4 hc hcp hp60 hK hp (Or.inr (Int32.not_lt.mpr h2'))) (fun h2' => ?_)))
  obtain ⟨s, _, hs, rfl⟩ := sp_nat (x := x5) (a := 0) (b := 60) (by omega) (by omega) h (Int32.le_of_lt (sp_le_lt h2'))
  have hs' : s < 60 := by
    rcases Nat.lt_or_ge s 60 with z | z
    · exact z
    · exact absurd (nI_le z (by omega)) h2'
  have hm : s % p < p := Nat.mod_lt s (by omega)
  refine br_f (by decide) (br_t rfl ⟨nI_ne0 (by omega) (by omega), ?_⟩)
  rw [pk_rem (by omega) (by omega) (by omega)]
  refine pk_le c (s % p) (fun g => sp_251_here h1 hu e3 h3 h2 h4 hc hcp hp60 hK hp hs' ?_) (fun g => sp_251_here h1 hu e3 h3 h2 h4 hc hcp hp60 hK hp hs' ?_)
  · exact if_neg (by omega)
  · exact if_pos g
theorem sp_155_here {x5 : Int32} (h1 : 0 < fc) (hu : ¬ a1 0 = 0) (e3 : a3 0 = 0) (h3 : ∀ k, 1 ≤ k → k < 26 → ¬ a3 k = 0) (h2 : a2 0 = nI p) (h4 : a4 0 = nI c) (hc : 1 ≤ c) (hcp : c ≤ p) (hp60 : p ≤ 60) (hK : 60 = K * p) (hp : ¬ fp = 0) : wL_lawOf_155 (fun r _ => r = 1) mc ms (nI c) (nI p) 0 x5 0 0 1 kc ks fc (0 + 1) fp fs a1 a2 a3 a4 a5 a6 a7 a8 a9 a10 := by
  unfold wL_lawOf_155
  refine sp_ld_one (by decide) h1 e3 h3 h2 h4 (by omega) hp60 (br_t rfl (br_f (by decide) (br_t rfl ⟨nI_ne0 (by omega) (by omega), sp_199_here ?_ h1 hu e3 h3 h2 h4 hc hcp hp60 hK hp⟩)))
  rw [show (60 : Int32) = nI 60 from rfl, pk_div (by omega) (by omega) (by omega), pk_mul]
end
section
variable {fc ft fp fs : Int32} {a1 a2 a3 a4 a5 a6 a7 a8 a9 a10 : Nat → Int32} {mc ms kc ks : Nat}
/-! behind the admission -/
theorem sp_neg {x : Int32} (h : ¬ x < 0) : ¬ (-1 : Int32) = x := by
  intro e
  subst e
  exact h (by decide)
/-- a refused task: the core is empty -/
theorem sp_106_bad {x1 x2 x3 x4 x5 x8 x9 : Int32} (h9 : ¬ x9 = 0) (h1 : ∀ k, k < 12 → a1 k = 0) (h3 : ∀ k, k < 26 → a3 k = -1) (hA : ∀ post : Int32 → St2 → Prop, post x9 (fc, ft, -1, fs, a1, a2, a3, a4, a5, a6, a7, a8, a9, a10) → wpX_admit post (fc, ft, -1, fs, a1, a2, a3, a4, a5, a6, a7, a8, a9, a10) x1 x2 x3) : wL_lawOf_106 (fun r _ => r = 1) mc ms x1 x2 x3 x4 x5 fc x8 x9 kc ks fc ft (-1) fs a1 a2 a3 a4 a5 a6 a7 a8 a9 a10 := by
  unfold wL_lawOf_106
  refine hA _ (br_t rfl ?_)
  have hu : ∀ k, x4 = nI k → k < 12 → a1 k = 0 := fun k _ hk => h1 k hk
  refine br_c (fun h => br_f h9 (sp_155_far (Or.inl h) hu)) (fun h => br_c (fun h' => br_f h9 (sp_155_none h h' (fun k hk => ?_) hu (sp_neg h))) (fun h' => br_f h9 (sp_155_far (Or.inr h') hu)))
  rw [h3 k hk]
  exact sp_neg h
theorem sp_106_ok {x4 x5 : Int32} {c d p K : Nat} (hb : ¬ sp_bad (nI p)) (hp : 2 ≤ p) (hp' : p ≤ 60) (hK : 60 = K * p) (hc1 : 1 ≤ c) (hcd : c ≤ d) (hdp : d ≤ p) (hfc : ¬ fc ≤ 0) (h1 : ∀ k, k < 12 → a1 k = 0) (h3 : ∀ k, k < 26 → a3 k = -1) : wL_lawOf_106 (fun r _ => r = 1) mc ms (nI c) (nI d) (nI p) x4 x5 fc 0 0 kc ks fc 0 (-1) fs a1 a2 a3 a4 a5 a6 a7 a8 a9 a10 := by
  unfold wL_lawOf_106
  refine sp_admit_ok hb hp hp' hc1 hcd hdp hfc (h1 0 (by omega)) h3 (br_t rfl ?_)
  have hfc' : 0 < fc := sp_le_lt hfc
  have hu : ¬ x4 = 0 → ∀ k, x4 = nI k → k < 12 → upd a1 0 1 k = 0 := by
    intro hx k ek hk
    have hk0 : k ≠ 0 := by
      intro z
      subst z
      exact hx ek
    rw [pk_un hk0]
    exact h1 k hk
  have h3' : ∀ k, 1 ≤ k → k < 26 → upd (upd (upd a3 0 0) 0 (-1)) 0 0 k = -1 := by
    intro k hk hk'
    rw [pk_un (by omega), pk_un (by omega), pk_un (by omega)]
    exact h3 k hk'
  refine br_c (fun h => br_t rfl (br_c (fun e => ?_) (fun e => sp_155_far (Or.inl h) (hu e)))) (fun h => br_c (fun h' => br_t rfl (br_c (fun e => ?_) (fun e => sp_155_none h h' (fun k hk => ?_) (hu e) (sp_neg h)))) (fun h' => br_t rfl (br_c (fun e => ?_) (fun e => sp_155_far (Or.inr h') (hu e)))))
  · subst e
    exact absurd h (by decide)
  · subst e
    refine sp_155_here hfc' ?_ pk_us (fun k hk hk' => ?_) pk_us pk_us hc1 (by omega) hp' hK (by decide)
    · rw [pk_us]
      decide
    · rw [h3' k hk hk']
      decide
  · by_cases k0 : k = 0
    · subst k0
      rw [pk_us]
      exact fun z => e z.symm
    · rw [h3' k (by omega) hk]
      exact sp_neg h
  · subst e
    exact absurd hfc' h'
theorem sp_29 {c d p x4 x5 : Int32} (hfc : ¬ fc ≤ 0) (h1 : ∀ k, k < 12 → a1 k = 0) (h3 : ∀ k, k < 26 → a3 k = -1) : wL_lawOf_29 (fun r _ => r = 1) mc ms c d p x4 x5 fc kc ks fc 0 (-1) fs a1 a2 a3 a4 a5 a6 a7 a8 a9 a10 := by
  have B : ∀ x8, sp_bad p → wL_lawOf_106 (fun r _ => r = 1) mc ms c d p x4 x5 fc x8 (-1) kc ks fc 0 (-1) fs a1 a2 a3 a4 a5 a6 a7 a8 a9 a10 :=
    fun x8 hb => sp_106_bad (by decide) h1 h3 (fun post H => sp_admit_bp hb H)
  have C : ¬ sp_bad p → sp_cost c d p → wL_lawOf_106 (fun r _ => r = 1) mc ms c d p x4 x5 fc 0 (-2) kc ks fc 0 (-1) fs a1 a2 a3 a4 a5 a6 a7 a8 a9 a10 :=
    fun hb hc => sp_106_bad (by decide) h1 h3 (fun post H => sp_admit_bc hb hc H)
  refine br_c (fun h => br_f (by decide) (br_f (by decide) (B _ (Or.inl h)))) (fun h => br_c (fun h' => br_t rfl ⟨sp_not0 h, br_c (fun g => ?_) (fun g => br_f (by decide) (B _ (Or.inr (Or.inr g))))⟩) (fun h' => br_f (by decide) (br_f (by decide) (B _ (Or.inr (Or.inl (sp_le_lt h')))))))
  have hb : ¬ sp_bad p := by
    intro z
    rcases z with z | z | z
    · exact h z
    · exact Int32.not_le.mpr z h'
    · exact z g
  refine br_t rfl (br_c (fun g1 => C hb (Or.inl g1)) (fun g1 => br_c (fun g2 => C hb (Or.inr (Or.inl g2))) (fun g2 => br_c (fun g3 => C hb (Or.inr (Or.inr (Or.inl g3)))) (fun g3 => br_c (fun g4 => ?_) (fun g4 => C hb (Or.inr (Or.inr (Or.inr g4))))))))
  obtain ⟨q, K, hq, hq', hK, rfl⟩ := sp_good hb
  obtain ⟨dn, hd1, hdq, rfl⟩ := sp_nat (x := d) (a := 1) (b := q) (by omega) (by omega) g3 (sp_lt_le g2)
  obtain ⟨cn, hc1, hcd, rfl⟩ := sp_nat (x := c) (a := 1) (b := dn) (by omega) (by omega) g1 g4
  exact sp_106_ok hb hq hq' hK hc1 hcd hdq hfc h1 h3
/-! the maker -/
theorem sp_init_107 {post : St2 → Prop} {mc ms kc ks : Nat} (H : ∀ b3 : Nat → Int32, (∀ k, k < 26 → b3 k = -1) → post (fc, ft, -1, fs, a1, a2, b3, a4, a5, a6, a7, a8, a9, a10)) : ∃ fu, wX_init_107 post mc ms kc ks fc ft fp fs fu 0 a1 a2 a3 a4 a5 a6 a7 a8 a9 a10 := by
  refine pk_loop (fun n i s => wX_init_107 post mc ms kc ks fc ft fp fs n (nI i) a1 a2 s a4 a5 a6 a7 a8 a9 a10) (fun i s => ∀ k, k < i → s k = -1) 26 0 a3 (by omega) (fun k hk => absurd hk (by omega)) ?_ ?_
  · intro n s h
    exact br_t (by decide) (H s h)
  · intro n i s hi h hw
    refine pk_le 26 i (fun z => absurd z (by omega)) (fun _ => ⟨pk_in i 26 hi, nm_e (nm_r (nI_1 i) (hw _ (fun k hk => ?_)))⟩)
    rw [nI_clamp (show i < 2 ^ 31 by omega)]
    by_cases e : k = i
    · rw [e, pk_us]
    · rw [pk_un e]
      exact h k (by omega)
end
theorem sp_lawOf (p0 p1 p2 p3 p4 p5 : Int32) : wpL_lawOf (fun r _ => r = 1) 11 324 () p0 p1 p2 p3 p4 p5 := by
  refine ⟨by decide, by decide, 10, 310, by decide, by decide, ?_⟩
  refine ⟨by decide, by decide, by decide, by decide, by decide, by decide, by decide, by decide, by decide, by decide, by decide, by decide, by decide, by decide, by decide, by decide, by decide, by decide, by decide, by decide, ?_⟩
  by_cases h1 : 1 ≤ p0
  · by_cases h3 : p0 ≤ 3
    · refine br_t h1 (br_t h3 (sp_init_107 (fun b3 e3 => br_t h1 (br_t h3 (sp_29 ?_ (fun _ _ => rfl) e3)))))
      intro z
      exact absurd (Int32.le_trans h1 z) (by decide)
    · exact br_t h1 (br_f h3 (sp_init_107 (fun b3 e3 => br_t h1 (br_f h3 (sp_29 (by decide) (fun _ _ => rfl) e3)))))
  · exact br_f h1 (br_t (by decide) (sp_init_107 (fun b3 e3 => br_f h1 (sp_29 (by decide) (fun _ _ => rfl) e3))))
theorem sp_cell {post : Int32 → Prop} {L : Nat} {xs : Nat → Int32} {k : Nat} (hL : L ≤ 6) (hk : k < 6) (H : ∀ r, post r) : wpL_cellAt post L xs () (nI k) :=
  pk_le L k (fun _ => H 0) (fun h => ⟨pk_in k L h, H _⟩)
end
section
theorem i_vc (xs : Nat → Int32) (L : Nat) (hL : L ≤ 6) : wpL_law (fun r => r = 1) L xs :=
  sp_cell (k := 0) hL (by omega) (fun r1 => sp_cell (k := 1) hL (by omega) (fun r2 => sp_cell (k := 2) hL (by omega) (fun r3 => sp_cell (k := 3) hL (by omega) (fun r4 => sp_cell (k := 4) hL (by omega) (fun r5 => sp_cell (k := 5) hL (by omega) (fun r6 => ⟨11, 324, by decide, by decide, sp_lawOf r1 r2 r3 r4 r5 r6⟩))))))
end
