section
/-- 1 << K -/
def rt_b (K : Nat) : Int32 := (1 : Int32) <<< (nI K &&& 31)
theorem rt_bit : ∀ K, K < 20 → ∀ k, k < 20 → ((rt_b K >>> (nI k &&& 31)) &&& 1) = if k = K then 1 else 0 := by decide +kernel
theorem rt_bit0 : ∀ k, k < 20 → (((0 : Int32) >>> (nI k &&& 31)) &&& 1) = 0 := by decide +kernel
theorem rt_bne : ∀ K, K < 20 → ¬ rt_b K = 0 := by decide +kernel
theorem rt_bdn : ∀ K, K < 20 → rt_b K &&& (rt_b K - 1) = 0 := by decide +kernel
theorem rt_bcl : ∀ K, K < 20 → rt_b K &&& (rt_b K ^^^ (-1)) = 0 := by decide +kernel
theorem rt_bitS {K : Nat} (hK : K < 20) : ((rt_b K >>> (nI K &&& 31)) &&& 1) = 1 := by rw [rt_bit K hK K hK, if_pos rfl]
theorem rt_bitN {K k : Nat} (hK : K < 20) (hk : k < 20) (h : k ≠ K) : ((rt_b K >>> (nI k &&& 31)) &&& 1) = 0 := by rw [rt_bit K hK k hk, if_neg h]
/-- places -/
theorem rt_ix (c k : Nat) : (20 : Int32) * nI c + nI k = nI (20 * c + k) := by
  show nI 20 * nI c + nI k = _
  rw [pk_mul, nI_add]
theorem rt_ix2 (c k : Nat) : (2 : Int32) * nI c + nI k = nI (2 * c + k) := by
  show nI 2 * nI c + nI k = _
  rw [pk_mul, nI_add]
theorem rt_cl (c k : Nat) (h : 20 * c + k < 2 ^ 31) : ((20 : Int32) * nI c + nI k).toNatClampNeg = 20 * c + k := pk_cl _ (rt_ix c k) h
theorem rt_in (c k N : Nat) (h : 20 * c + k < N) (hN : N < 2 ^ 31) : vp_in ((20 : Int32) * nI c + nI k) N := pk_in _ _ h (rt_ix c k) hN
theorem rt_d2 (a : Nat) (ha : a < 2 ^ 31) : nI a / (2 : Int32) = nI (a / 2) := pk_div (d := 2) ha (by omega) (by omega)
theorem rt_d20 (a : Nat) (ha : a < 2 ^ 31) : nI a / (20 : Int32) = nI (a / 20) := pk_div (d := 20) ha (by omega) (by omega)
theorem rt_m20 (a : Nat) (ha : a < 2 ^ 31) : nI a - nI a / (20 : Int32) * 20 = nI (a % 20) := pk_rem (d := 20) ha (by omega) (by omega)
theorem rt_fill {f s : Nat → Int32} {i k : Nat} {x : Int32} (hk : k = i) (h : ∀ j, j < i → s j = f j) (hx : x = f i) : ∀ j, j < i + 1 → upd s k x j = f j := by
  intro j hj
  rw [hk]
  by_cases e : j = i
  · rw [e, pk_us, hx]
  · rw [pk_un e]
    exact h j (by omega)
/-- all is d below n -/
def rt_U (a : Nat → Int32) (n : Nat) (d : Int32) : Prop := ∀ j, j < n → a j = d
/-- below n all is d, but v at p -/
def rt_A (a : Nat → Int32) (n p : Nat) (d v : Int32) : Prop := ∀ j, j < n → a j = if j = p then v else d
theorem rt_A_at {a : Nat → Int32} {n p : Nat} {d v : Int32} (h : rt_A a n p d v) (hp : p < n) : a p = v := by rw [h p hp, if_pos rfl]
theorem rt_A_ne {a : Nat → Int32} {n p : Nat} {d v : Int32} (h : rt_A a n p d v) {j : Nat} (hj : j < n) (e : j ≠ p) : a j = d := by rw [h j hj, if_neg e]
theorem rt_A_upd {a : Nat → Int32} {n : Nat} {d : Int32} (h : rt_U a n d) (p : Nat) (v : Int32) : rt_A (upd a p v) n p d v := by
  intro j hj
  by_cases e : j = p
  · rw [e, pk_us, if_pos rfl]
  · rw [pk_un e, if_neg e, h j hj]
theorem rt_A_set {a : Nat → Int32} {n p : Nat} {d v : Int32} (h : rt_A a n p d v) : rt_U (upd a p d) n d := by
  intro j hj
  by_cases e : j = p
  · rw [e, pk_us]
  · rw [pk_un e, rt_A_ne h hj e]
theorem rt_A_U {a : Nat → Int32} {n p : Nat} {d v : Int32} (h : rt_A a n p d v) (e : v = d) : rt_U a n d := by
  intro j hj
  rw [h j hj, e]
  exact ite_self d
theorem rt_U_A {a : Nat → Int32} {n : Nat} {d : Int32} (h : rt_U a n d) (p : Nat) : rt_A a n p d d := by
  intro j hj
  rw [h j hj]
  exact (ite_self d).symm
/-- comparisons of ints -/
theorem rt_2lt {x : Int32} (h : 3 ≤ x) : 2 < x := by
  rw [Int32.lt_iff_toInt_lt]
  have h1 := Int32.le_iff_toInt_le.mp h
  have e2 : (2 : Int32).toInt = 2 := by decide
  have e3 : (3 : Int32).toInt = 3 := by decide
  omega
theorem rt_3lt {x : Int32} (h : ¬ x ≤ 3) : 3 < x := Int32.not_le.mp h
theorem rt_19lt {x : Int32} (h : 20 ≤ x) : 19 < x := by
  rw [Int32.lt_iff_toInt_lt]
  have h1 := Int32.le_iff_toInt_le.mp h
  have e2 : (19 : Int32).toInt = 19 := by decide
  have e3 : (20 : Int32).toInt = 20 := by decide
  omega
theorem rt_pos2 {x : Int32} (h : 3 ≤ x) : ¬ x < 0 := by
  intro g
  have h1 := Int32.le_iff_toInt_le.mp h
  have h2 := Int32.lt_iff_toInt_lt.mp g
  have e2 : (0 : Int32).toInt = 0 := by decide
  have e3 : (3 : Int32).toInt = 3 := by decide
  omega
theorem rt_m1 {x : Int32} (h : ¬ x < (-1)) (g : x < 0) : x = -1 := by
  have h1 := Int32.le_iff_toInt_le.mp (Int32.not_lt.mp h)
  have h2 := Int32.lt_iff_toInt_lt.mp g
  have e2 : (0 : Int32).toInt = 0 := by decide
  have e3 : (-1 : Int32).toInt = -1 := by decide
  exact Int32.toInt_inj.mp (by omega)
theorem rt_nm1 {n : Nat} (h : n < 2 ^ 31) : ¬ nI n = -1 := by
  intro e
  have h2 := nI_pos h
  rw [e] at h2
  exact h2 (by decide)
theorem rt_nlm1 {n : Nat} (h : n < 2 ^ 31) : ¬ nI n < (-1) := by
  intro e
  have h1 := Int32.lt_iff_toInt_lt.mp e
  have e3 : (-1 : Int32).toInt = -1 := by decide
  rw [nI_toInt h] at h1
  omega
/-- the small methods -/
theorem rt_tab {post : Int32 → Prop} {T : Nat} (hT : T < 3) (h : post 1) : wpX_isTable post () (nI T) :=
  br_f (nI_pos (by omega)) (pk_le 3 T (fun z => absurd z (by omega)) (fun _ => h))
theorem rt_tabF {post : Int32 → Prop} {x : Int32} (hx : x < 0 ∨ 3 ≤ x) (h : post 0) : wpX_isTable post () x :=
  br_c (fun _ => h) (fun g => br_t (hx.resolve_left g) h)
theorem rt_col {post : Int32 → Prop} {C : Nat} (hC : C < 2) (h : post 1) : wpX_isColumn post () (nI C) :=
  pk_eq C 0 (fun _ => h) (fun z => pk_eq C 1 (fun _ => h) (fun z2 => absurd hC (by omega)))
theorem rt_colF {post : Int32 → Prop} {x : Int32} (h0 : ¬ x = 0) (h1 : ¬ x = 1) (h : post 0) : wpX_isColumn post () x :=
  br_f h0 (br_f h1 h)
theorem rt_key {post : Int32 → Prop} {K : Nat} (hK : K < 20) (h : post 1) : wpX_isKey post () (nI K) :=
  br_f (nI_pos (by omega)) (pk_le 20 K (fun z => absurd z (by omega)) (fun _ => h))
theorem rt_keyF {post : Int32 → Prop} {x : Int32} (hx : x < 0 ∨ 20 ≤ x) (h : post 0) : wpX_isKey post () x :=
  br_c (fun _ => h) (fun g => br_t (hx.resolve_left g) h)
theorem rt_ones0 {post : Int32 → Prop} (h : post 0) : wpX_ones post () 0 := by
  unfold wpX_ones
  exact ⟨1, br_f (by decide) (br_t rfl h)⟩
theorem rt_ones1 {post : Int32 → Prop} {K : Nat} (hK : K < 20) (h : post 1) : wpX_ones post () (rt_b K) := by
  unfold wpX_ones
  exact ⟨2, br_f (by decide) (br_f (rt_bne K hK) (nm_r (rt_bdn K hK) (nm_r (e' := 1) (by decide) (nm_r (e' := 1) (by decide) (br_f (by decide) (br_t rfl h))))))⟩
section
variable {fo fm : Int32} {a1 a2 a3 a4 a5 a6 a7 a8 : Nat → Int32}
theorem rt_hasF {post : Int32 → Prop} {t k : Int32} (hk : k < 0 ∨ 20 ≤ k) (h : post 0) : wpX_hasRow post (fo, fm, a1, a2, a3, a4, a5, a6, a7, a8) t k := by
  unfold wpX_hasRow
  exact rt_keyF hk (br_t rfl h)
theorem rt_has1 {post : Int32 → Prop} {T K : Nat} (hT : T < 3) (hK : K < 20) (h3 : a3 T = rt_b K) (h : post 1) : wpX_hasRow post (fo, fm, a1, a2, a3, a4, a5, a6, a7, a8) (nI T) (nI K) := by
  unfold wpX_hasRow
  exact rt_key hK (br_f (by decide) ⟨pk_in T 3 hT, br_t (by rw [nI_clamp (show T < 2 ^ 31 by omega), h3]; exact rt_bitS hK) h⟩)
theorem rt_has0 {post : Int32 → Prop} {T K : Nat} (hT : T < 3) (hK : K < 20) (h3 : a3 T = 0) (h : post 0) : wpX_hasRow post (fo, fm, a1, a2, a3, a4, a5, a6, a7, a8) (nI T) (nI K) := by
  unfold wpX_hasRow
  exact rt_key hK (br_f (by decide) ⟨pk_in T 3 hT, br_f (by rw [nI_clamp (show T < 2 ^ 31 by omega), h3, rt_bit0 K hK]; decide) h⟩)
/-- init -/
theorem rt_init90 {post : St2 → Prop} {mc ms kc ks : Nat} (H : ∀ a, rt_U a 120 (-1) → post (fo, fm, a1, a2, a3, a, a5, a6, a7, a8)) : ∃ n, wX_init_90 post mc ms kc ks fo fm n 0 a1 a2 a3 a4 a5 a6 a7 a8 :=
  pk_loop (fun n i s => wX_init_90 post mc ms kc ks fo fm n (nI i) a1 a2 a3 s a5 a6 a7 a8) (fun i s => rt_U s i (-1)) 120 0 a4 (by omega) (fun j hj => absurd hj (by omega))
    (fun n s h => pk_le 120 120 (fun _ => H s h) (fun z => absurd z (by omega)))
    (fun n i s hi h hw => pk_le 120 i (fun z => absurd z (by omega)) (fun _ => ⟨pk_in i 120 hi, nm_e (nm_r (nI_1 i) (hw _ (rt_fill (f := fun _ => -1) (nI_clamp (by omega)) h rfl)))⟩))
theorem rt_init69 {post : St2 → Prop} {mc ms kc ks : Nat} (H : ∀ b a, rt_U b 6 (-1) → rt_U a 120 (-1) → post (fo, fm, a1, b, a3, a, a5, a6, a7, a8)) : ∃ n, wX_init_69 post mc ms kc ks fo fm n 0 a1 a2 a3 a4 a5 a6 a7 a8 :=
  pk_loop (fun n i s => wX_init_69 post mc ms kc ks fo fm n (nI i) a1 s a3 a4 a5 a6 a7 a8) (fun i s => rt_U s i (-1)) 6 0 a2 (by omega) (fun j hj => absurd hj (by omega))
    (fun n s h => pk_le 6 6 (fun _ => rt_init90 (fun a ha => H s a h ha)) (fun z => absurd z (by omega)))
    (fun n i s hi h hw => pk_le 6 i (fun z => absurd z (by omega)) (fun _ => ⟨pk_in i 6 hi, nm_e (nm_r (nI_1 i) (hw _ (rt_fill (f := fun _ => -1) (nI_clamp (by omega)) h rfl)))⟩))
theorem rt_init {post : St2 → Prop} {mc ms : Nat} (hc : 8 ≤ mc) (hs : 1233 ≤ ms)
    (H : ∀ b a, rt_U b 6 (-1) → rt_U a 120 (-1) → post (fo, fm, fun _ => 0, b, fun _ => 0, a, fun _ => 0, fun _ => 0, fun _ => 0, fun _ => 0)) : wpX_init post mc ms (fo, fm) := by
  unfold wpX_init
  exact ⟨by omega, by omega, by omega, by omega, by omega, by omega, by omega, by omega, by omega, by omega, by omega, by omega, by omega, by omega, by omega, by omega, rt_init69 H⟩
/-- link -/
theorem rt_link67 {post : Int32 → St2 → Prop} {to rl : Int32} {c : Nat} (hc : c < 6) (h6 : rt_U a6 120 0) (h2 : a2 c = -1)
    (H : post (-1) (fo, fm, upd a1 c (if rl = -1 then 0 else to), upd a2 c rl, a3, a4, a5, a6, a7, a8)) : ∃ n, wX_link_67 post to rl (nI c) fo fm a1 a2 a3 a4 a5 a6 a7 a8 n 0 := by
  have ec : (nI c).toNatClampNeg = c := nI_clamp (by omega)
  refine pk_loop (σ := Unit) (fun n i _ => wX_link_67 post to rl (nI c) fo fm a1 a2 a3 a4 a5 a6 a7 a8 n (nI i)) (fun _ _ => True) 20 0 () (by omega) trivial ?_ ?_
  · intro n _ _
    refine pk_le 20 20 (fun _ => ?_) (fun z => absurd z (by omega))
    refine ⟨pk_in c 6 hc, nm_r (e' := -1) (by rw [ec]; exact h2) ⟨pk_in c 6 hc, nm_r (e' := upd a2 c rl) (by rw [ec]) ?_⟩⟩
    refine br_c (fun z => ⟨pk_in c 6 hc, nm_r (e' := upd a1 c 0) (by rw [ec]) ?_⟩) (fun z => ⟨pk_in c 6 hc, nm_r (e' := upd a1 c to) (by rw [ec]) ?_⟩)
    · rw [if_pos z] at H
      exact H
    · rw [if_neg z] at H
      exact H
  · intro n i _ hi _ hw
    exact pk_le 20 i (fun z => absurd z (by omega)) (fun _ => ⟨rt_in c i 120 (by omega) (by omega), br_t (by rw [rt_cl c i (by omega)]; exact h6 _ (by omega)) (nm_r (nI_1 i) (hw () trivial))⟩)
theorem rt_linkT {post : Int32 → St2 → Prop} {t c to rl : Int32} (ht : t < 0 ∨ 3 ≤ t) (H : post (-1) (fo, fm, a1, a2, a3, a4, a5, a6, a7, a8)) : wpX_link post (fo, fm, a1, a2, a3, a4, a5, a6, a7, a8) t c to rl := by
  unfold wpX_link
  exact rt_tabF ht (br_t rfl H)
theorem rt_linkTo {post : Int32 → St2 → Prop} {T : Nat} {c to rl : Int32} (hT : T < 3) (hr : ¬ rl = -1) (ht : to < 0 ∨ 3 ≤ to) (H : post (-1) (fo, fm, a1, a2, a3, a4, a5, a6, a7, a8)) : wpX_link post (fo, fm, a1, a2, a3, a4, a5, a6, a7, a8) (nI T) c to rl := by
  unfold wpX_link
  exact rt_tab hT (br_f (by decide) (br_f hr (rt_tabF ht (br_t rfl H))))
theorem rt_link22 {post : Int32 → St2 → Prop} {T : Nat} {c to rl : Int32} (hT : T < 3) (ht : rl = -1 ∨ ∃ tt, tt < 3 ∧ to = nI tt) (H : wX_link_22 post (nI T) c to rl fo fm a1 a2 a3 a4 a5 a6 a7 a8) : wpX_link post (fo, fm, a1, a2, a3, a4, a5, a6, a7, a8) (nI T) c to rl := by
  unfold wpX_link
  refine rt_tab hT (br_f (by decide) (br_c (fun _ => H) (fun z => ?_)))
  obtain ⟨tt, htt, rfl⟩ := ht.resolve_left z
  exact rt_tab htt (br_f (by decide) H)
theorem rt_linkC {post : Int32 → St2 → Prop} {T : Nat} {c to rl : Int32} (hT : T < 3) (ht : rl = -1 ∨ ∃ tt, tt < 3 ∧ to = nI tt) (h0 : ¬ c = 0) (h1 : ¬ c = 1) (H : post (-2) (fo, fm, a1, a2, a3, a4, a5, a6, a7, a8)) : wpX_link post (fo, fm, a1, a2, a3, a4, a5, a6, a7, a8) (nI T) c to rl := by
  refine rt_link22 hT ht ?_
  unfold wX_link_22
  exact rt_colF h0 h1 (br_t rfl H)
theorem rt_linkR {post : Int32 → St2 → Prop} {T C : Nat} {to rl : Int32} (hT : T < 3) (hC : C < 2) (ht : rl = -1 ∨ ∃ tt, tt < 3 ∧ to = nI tt) (hr : rl < (-1) ∨ ¬ rl ≤ 3) (H : post (-3) (fo, fm, a1, a2, a3, a4, a5, a6, a7, a8)) : wpX_link post (fo, fm, a1, a2, a3, a4, a5, a6, a7, a8) (nI T) (nI C) to rl := by
  refine rt_link22 hT ht ?_
  unfold wX_link_22
  exact rt_col hC (br_f (by decide) (br_c (fun _ => H) (fun z => br_f (hr.resolve_left z) H)))
theorem rt_linkY {post : Int32 → St2 → Prop} {T C : Nat} {to rl : Int32} (hT : T < 3) (hC : C < 2) (ht : rl = -1 ∨ ∃ tt, tt < 3 ∧ to = nI tt) (hr1 : ¬ rl < (-1)) (hr2 : rl ≤ 3) (h6 : rt_U a6 120 0) (h2 : rt_U a2 6 (-1))
    (H : post (-1) (0, fm, upd a1 (2 * T + C) (if rl = -1 then 0 else to), upd a2 (2 * T + C) rl, a3, a4, a5, a6, a7, a8)) : wpX_link post (0, fm, a1, a2, a3, a4, a5, a6, a7, a8) (nI T) (nI C) to rl := by
  refine rt_link22 hT ht ?_
  unfold wX_link_22
  exact rt_col hC (br_f (by decide) (br_f hr1 (br_t hr2 (br_t rfl (nm_r (rt_ix2 T C) (rt_link67 (by omega) h6 (h2 _ (by omega)) H))))))
/-- insert -/
theorem rt_insT {post : Int32 → St2 → Prop} {t k : Int32} (ht : t < 0 ∨ 3 ≤ t) (H : post (-1) (fo, fm, a1, a2, a3, a4, a5, a6, a7, a8)) : wpX_insert post (fo, fm, a1, a2, a3, a4, a5, a6, a7, a8) t k := by
  unfold wpX_insert
  exact rt_tabF ht (br_t rfl H)
theorem rt_insK {post : Int32 → St2 → Prop} {T : Nat} {k : Int32} (hT : T < 3) (hk : k < 0 ∨ 20 ≤ k) (H : post (-2) (fo, fm, a1, a2, a3, a4, a5, a6, a7, a8)) : wpX_insert post (fo, fm, a1, a2, a3, a4, a5, a6, a7, a8) (nI T) k := by
  unfold wpX_insert
  exact rt_tab hT (br_f (by decide) (rt_keyF hk (br_t rfl H)))
theorem rt_insY {post : Int32 → St2 → Prop} {T K : Nat} (hT : T < 3) (hK : K < 20) (h3 : rt_U a3 3 0) (H : ∀ a, rt_A a 3 T 0 (rt_b K) → post 1 (fo, fm, a1, a2, a, a4, a5, a6, a7, a8)) : wpX_insert post (fo, fm, a1, a2, a3, a4, a5, a6, a7, a8) (nI T) (nI K) := by
  have eT : (nI T).toNatClampNeg = T := nI_clamp (by omega)
  unfold wpX_insert
  refine rt_tab hT (br_f (by decide) (rt_key hK (br_f (by decide) (rt_has0 hT hK (h3 T hT) (br_t rfl ⟨pk_in T 3 hT, ?_⟩)))))
  rw [eT, h3 T hT]
  refine rt_ones0 (br_t (by decide) ⟨pk_in T 3 hT, pk_in T 3 hT, nm_r (e' := upd a3 T (rt_b K)) ?_ ?_⟩)
  · rw [Int32.zero_or]
    rfl
  · exact H _ (rt_A_upd h3 T (rt_b K))
end
end
section
theorem rt_put {f s : Nat → Int32} {p i k : Nat} {x : Int32} (hk : k = p + i) (h : ∀ j, j < i → s (p + j) = f j) (hx : x = f i) : ∀ j, j < i + 1 → upd s k x (p + j) = f j := by
  intro j hj
  rw [hk]
  by_cases e : j = i
  · rw [e, pk_us, hx]
  · rw [pk_un (by omega)]
    exact h j (by omega)
theorem rt_low {f s : Nat → Int32} {p i k : Nat} {x : Int32} (hk : k = p + i) (h : ∀ j, j < p → s j = f j) : ∀ j, j < p → upd s k x j = f j := by
  intro j hj
  rw [hk, pk_un (by omega)]
  exact h j hj
theorem rt_i0 (i : Nat) : nI 732 + nI i = nI (732 + i) := nI_add _ _
theorem rt_i3 (i : Nat) : nI 732 + 3 + nI i = nI (735 + i) := by
  show nI 732 + nI 3 + nI i = _
  rw [nI_add, nI_add]
theorem rt_i123 (i : Nat) : nI 732 + 123 + nI i = nI (855 + i) := by
  show nI 732 + nI 123 + nI i = _
  rw [nI_add, nI_add]
section
variable {fo fm : Int32} {a1 a2 a3 a4 a5 a6 a7 a8 : Nat → Int32}
/-- keep -/
theorem rt_keep65 {post : St2 → Prop} (H : ∀ a, (∀ j, j < 855 → a j = a7 j) → post (fo, fm, a1, a2, a3, a4, a5, a6, a, a8)) : ∃ n, wX_keep_65 post (nI 732) fo fm n 0 a1 a2 a3 a4 a5 a6 a7 a8 :=
  pk_loop (fun n i s => wX_keep_65 post (nI 732) fo fm n (nI i) a1 a2 a3 a4 a5 a6 s a8) (fun i s => ∀ j, j < 855 → s j = a7 j) 60 0 a7 (by omega) (fun j _ => rfl)
    (fun n s h => pk_le 60 60 (fun _ => H s h) (fun z => absurd z (by omega)))
    (fun n i s hi h hw => pk_le 60 i (fun z => absurd z (by omega)) (fun _ => ⟨pk_in i 60 hi, pk_in (855 + i) 915 (by omega) (rt_i123 i), nm_e (nm_r (nI_1 i) (hw _ (rt_low (pk_cl (855 + i) (rt_i123 i)) h)))⟩))
theorem rt_keep35 {post : St2 → Prop} (H : ∀ a, (∀ j, j < 735 → a j = a7 j) → (∀ j, j < 120 → a (735 + j) = a4 j) → post (fo, fm, a1, a2, a3, a4, a5, a6, a, a8)) : ∃ n, wX_keep_35 post (nI 732) fo fm n 0 a1 a2 a3 a4 a5 a6 a7 a8 :=
  pk_loop (fun n i s => wX_keep_35 post (nI 732) fo fm n (nI i) a1 a2 a3 a4 a5 a6 s a8) (fun i s => (∀ j, j < 735 → s j = a7 j) ∧ (∀ j, j < i → s (735 + j) = a4 j)) 120 0 a7 (by omega) ⟨fun j _ => rfl, fun j hj => absurd hj (by omega)⟩
    (fun n s h => pk_le 120 120 (fun _ => rt_keep65 (fun a ha => H a (fun j hj => by rw [ha j (by omega)]; exact h.1 j hj) (fun j hj => by rw [ha _ (by omega)]; exact h.2 j hj))) (fun z => absurd z (by omega)))
    (fun n i s hi h hw => pk_le 120 i (fun z => absurd z (by omega)) (fun _ => ⟨pk_in i 120 hi, pk_in (735 + i) 915 (by omega) (rt_i3 i), nm_e (nm_r (nI_1 i) (hw _ ⟨rt_low (pk_cl (735 + i) (rt_i3 i)) h.1, rt_put (pk_cl (735 + i) (rt_i3 i)) h.2 (by rw [nI_clamp (by omega)])⟩))⟩))
theorem rt_keep8 {post : St2 → Prop} (H : ∀ a, (∀ j, j < 3 → a (732 + j) = a3 j) → (∀ j, j < 120 → a (735 + j) = a4 j) → post (fo, fm, a1, a2, a3, a4, a5, a6, a, a8)) : ∃ n, wX_keep_8 post (nI 732) fo fm n 0 a1 a2 a3 a4 a5 a6 a7 a8 :=
  pk_loop (fun n i s => wX_keep_8 post (nI 732) fo fm n (nI i) a1 a2 a3 a4 a5 a6 s a8) (fun i s => ∀ j, j < i → s (732 + j) = a3 j) 3 0 a7 (by omega) (fun j hj => absurd hj (by omega))
    (fun n s h => pk_le 3 3 (fun _ => rt_keep35 (fun a ha hb => H a (fun j hj => by rw [ha _ (by omega)]; exact h j hj) hb)) (fun z => absurd z (by omega)))
    (fun n i s hi h hw => pk_le 3 i (fun z => absurd z (by omega)) (fun _ => ⟨pk_in i 3 hi, pk_in (732 + i) 915 (by omega) (rt_i0 i), nm_e (nm_r (nI_1 i) (hw _ (rt_put (pk_cl (732 + i) (rt_i0 i)) h (by rw [nI_clamp (by omega)]))))⟩))
theorem rt_keep {post : St2 → Prop} (H : ∀ a, (∀ j, j < 3 → a (732 + j) = a3 j) → (∀ j, j < 120 → a (735 + j) = a4 j) → post (fo, fm, a1, a2, a3, a4, a5, a6, a, a8)) : wpX_keep post (fo, fm, a1, a2, a3, a4, a5, a6, a7, a8) 4 := by
  unfold wpX_keep
  exact nm_r (e' := nI 732) (by decide) (rt_keep8 H)
/-- setRef -/
theorem rt_setRefN {post : Int32 → St2 → Prop} {c k : Nat} (hc : c < 6) (hk : k < 20) (h4 : a4 (20 * c + k) = -1) (H : post 0 (fo, fm, a1, a2, a3, a4, a5, a6, a7, a8)) : wpX_setRef post (fo, fm, a1, a2, a3, a4, a5, a6, a7, a8) (nI c) (nI k) (-1) := by
  unfold wpX_setRef
  refine nm_r (rt_ix c k) ⟨pk_in (20 * c + k) 120 (by omega), ?_⟩
  rw [nI_clamp (show 20 * c + k < 2 ^ 31 by omega)]
  exact nm_r h4 (br_t rfl H)
theorem rt_setRefC {post : Int32 → St2 → Prop} {c K R c' k' : Nat} {r h : Int32} (hc : c < 6) (hK : K < 20) (hR : R < 20) (hc' : c' < 6) (hk' : k' < 20) (h4 : rt_A a4 120 (20 * c + K) (-1) r) (h6 : rt_A a6 120 (20 * c + R) 0 h) (hr : (r = -1 ∧ h = 0) ∨ (r = nI R ∧ h = rt_b K))
    (hA : c' = c → k' = K → ∀ x b4 b6, rt_U b4 120 (-1) → rt_U b6 120 0 → post x (fo, fm, a1, a2, a3, b4, a5, b6, a7, a8)) (hB : ¬ (c' = c ∧ k' = K) → post 0 (fo, fm, a1, a2, a3, a4, a5, a6, a7, a8)) : wpX_setRef post (fo, fm, a1, a2, a3, a4, a5, a6, a7, a8) (nI c') (nI k') (-1) := by
  by_cases e : c' = c ∧ k' = K
  · obtain ⟨rfl, rfl⟩ := e
    have e4 : a4 (20 * c' + k') = r := rt_A_at h4 (by omega)
    rcases hr with ⟨rfl, rfl⟩ | ⟨rfl, rfl⟩
    · exact rt_setRefN hc' hk' e4 (hA rfl rfl 0 a4 a6 (rt_A_U h4 rfl) (rt_A_U h6 rfl))
    · unfold wpX_setRef
      refine nm_r (rt_ix c' k') ⟨pk_in (20 * c' + k') 120 (by omega), ?_⟩
      rw [nI_clamp (show 20 * c' + k' < 2 ^ 31 by omega)]
      refine nm_r e4 (br_f (rt_nm1 (by omega)) (br_f (nI_pos (by omega)) ⟨rt_in c' R 120 (by omega) (by omega), rt_in c' R 120 (by omega) (by omega), nm_r (e' := upd a6 (20 * c' + R) 0) ?_ ?_⟩))
      · rw [rt_cl c' R (by omega), rt_A_at h6 (by omega)]
        exact congrArg (upd a6 (20 * c' + R)) (rt_bcl k' hk')
      · unfold wX_setRef_50
        exact br_t (by decide) ⟨pk_in (20 * c' + k') 120 (by omega), nm_r (e' := upd a4 (20 * c' + k') (-1)) (by rw [nI_clamp (by omega)]) (hA rfl rfl 1 _ _ (rt_A_set h4) (rt_A_set h6))⟩
  · exact rt_setRefN hc' hk' (rt_A_ne h4 (by omega) (by omega)) (hB e)
theorem rt_setRefS {post : Int32 → St2 → Prop} {c K R : Nat} {r h : Int32} (hc : c < 6) (hK : K < 20) (hR : R < 20) (h4 : rt_U a4 120 (-1)) (h6 : rt_U a6 120 0) (hr : (r = -1 ∧ h = 0) ∨ (r = nI R ∧ h = rt_b K))
    (H : ∀ x b4 b6, rt_A b4 120 (20 * c + K) (-1) r → rt_A b6 120 (20 * c + R) 0 h → post x (fo, fm, a1, a2, a3, b4, a5, b6, a7, a8)) : wpX_setRef post (fo, fm, a1, a2, a3, a4, a5, a6, a7, a8) (nI c) (nI K) r := by
  rcases hr with ⟨rfl, rfl⟩ | ⟨rfl, rfl⟩
  · exact rt_setRefN hc hK (h4 _ (by omega)) (H 0 a4 a6 (rt_U_A h4 _) (rt_U_A h6 _))
  · unfold wpX_setRef
    refine nm_r (rt_ix c K) ⟨pk_in (20 * c + K) 120 (by omega), ?_⟩
    rw [nI_clamp (show 20 * c + K < 2 ^ 31 by omega)]
    refine nm_r (h4 _ (by omega)) (br_f (fun z => rt_nm1 (show R < 2 ^ 31 by omega) z.symm) (br_t (by decide) ?_))
    unfold wX_setRef_50
    refine br_f (nI_pos (by omega)) ⟨rt_in c R 120 (by omega) (by omega), rt_in c R 120 (by omega) (by omega), nm_r (e' := upd a6 (20 * c + R) (rt_b K)) ?_ ⟨pk_in (20 * c + K) 120 (by omega), nm_r (e' := upd a4 (20 * c + K) (nI R)) (by rw [nI_clamp (by omega)]) (H 1 _ _ (rt_A_upd h4 _ _) (rt_A_upd h6 _ _))⟩⟩
    rw [rt_cl c R (by omega), h6 _ (by omega), Int32.zero_or]
    rfl
/-- danglingIn -/
theorem rt_dang0 {post : Int32 → Prop} {c tt : Nat} (hc : c < 6) (ht : tt < 3) (h1 : a1 c = nI tt) (hz : ∀ k, k < 20 → ¬ ((a3 tt >>> (nI k &&& 31)) &&& 1) = 0 ∨ a6 (20 * c + k) = 0) (H : post 0) : wpX_danglingIn post (fo, fm, a1, a2, a3, a4, a5, a6, a7, a8) (nI c) := by
  have ec : (nI c).toNatClampNeg = c := nI_clamp (by omega)
  have et : (nI tt).toNatClampNeg = tt := nI_clamp (by omega)
  unfold wpX_danglingIn
  refine pk_loop (σ := Unit) (fun n i _ => wX_danglingIn_4 post (nI c) fo fm a1 a2 a3 a4 a5 a6 a7 a8 n 0 (nI i)) (fun _ _ => True) 20 0 () (by omega) trivial ?_ ?_
  · intro n _ _
    exact pk_le 20 20 (fun _ => H) (fun z => absurd z (by omega))
  · intro n i _ hi _ hw
    refine pk_le 20 i (fun z => absurd z (by omega)) (fun _ => ?_)
    rw [ec, h1, et]
    refine ⟨pk_in c 6 hc, pk_in tt 3 ht, br_c (fun z => ⟨rt_in c i 120 (by omega) (by omega), ?_⟩) (fun z => nm_r (nI_1 i) (hw () trivial))⟩
    rw [rt_cl c i (by omega), (hz i hi).resolve_left (fun g => g z)]
    exact rt_ones0 (nm_r (e' := 0) (by decide) (nm_r (nI_1 i) (hw () trivial)))
theorem rt_dang1 {post : Int32 → Prop} {c tt R K : Nat} (hc : c < 6) (ht : tt < 3) (hR : R < 20) (hK : K < 20) (h1 : a1 c = nI tt) (hz : ((a3 tt >>> (nI R &&& 31)) &&& 1) = 0) (h6 : rt_A a6 120 (20 * c + R) 0 (rt_b K)) (H : post 1) : wpX_danglingIn post (fo, fm, a1, a2, a3, a4, a5, a6, a7, a8) (nI c) := by
  have ec : (nI c).toNatClampNeg = c := nI_clamp (by omega)
  have et : (nI tt).toNatClampNeg = tt := nI_clamp (by omega)
  unfold wpX_danglingIn
  refine pk_loop (fun n i s => wX_danglingIn_4 post (nI c) fo fm a1 a2 a3 a4 a5 a6 a7 a8 n s (nI i)) (fun i s => s = if R < i then 1 else 0) 20 0 0 (by omega) (by rw [if_neg (by omega)]) ?_ ?_
  · intro n s h
    rw [if_pos hR] at h
    subst h
    exact pk_le 20 20 (fun _ => H) (fun z => absurd z (by omega))
  · intro n i s hi h hw
    refine pk_le 20 i (fun z => absurd z (by omega)) (fun _ => ?_)
    rw [ec, h1, et]
    refine ⟨pk_in c 6 hc, pk_in tt 3 ht, br_c (fun z => ⟨rt_in c i 120 (by omega) (by omega), ?_⟩) (fun z => nm_r (nI_1 i) (hw s ?_))⟩
    · rw [rt_cl c i (by omega)]
      by_cases e : i = R
      · rw [e, rt_A_at h6 (by omega), ← e]
        refine rt_ones1 hK (nm_e (nm_r (nI_1 i) (hw _ ?_)))
        rw [h, if_neg (by omega), if_pos (by omega)]
        decide
      · rw [rt_A_ne h6 (by omega) (by omega)]
        refine rt_ones0 (nm_r (e' := s) (Int32.add_zero s) (nm_r (nI_1 i) (hw s ?_)))
        rw [h]
        by_cases g : R < i
        · rw [if_pos g, if_pos (by omega)]
        · rw [if_neg g, if_neg (by omega)]
    · have e : i ≠ R := fun e => z (e ▸ hz)
      rw [h]
      by_cases g : R < i
      · rw [if_pos g, if_pos (by omega)]
      · rw [if_neg g, if_neg (by omega)]
/-- isSound -/
def rt_D (a1 a3 a6 : Nat → Int32) (c : Nat) : Prop := ∃ tt, tt < 3 ∧ a1 c = nI tt ∧ ∀ k, k < 20 → ¬ ((a3 tt >>> (nI k &&& 31)) &&& 1) = 0 ∨ a6 (20 * c + k) = 0
theorem rt_snd1 {post : Int32 → Prop} (hS : ∀ c, c < 6 → ¬ a2 c < 0 → rt_D a1 a3 a6 c) (H : post 1) : wpX_isSound post (fo, fm, a1, a2, a3, a4, a5, a6, a7, a8) 1 := by
  unfold wpX_isSound
  refine pk_loop (σ := Unit) (fun n i _ => wX_isSound_2 post 1 fo fm a1 a2 a3 a4 a5 a6 a7 a8 n (nI i)) (fun _ _ => True) 6 0 () (by omega) trivial ?_ ?_
  · intro n _ _
    exact pk_le 6 6 (fun _ => H) (fun z => absurd z (by omega))
  · intro n i _ hi _ hw
    have ei : (nI i).toNatClampNeg = i := nI_clamp (by omega)
    have h31 : ¬ a2 i < 0 → wX_isSound_31 post (wX_isSound_2 post 1 fo fm a1 a2 a3 a4 a5 a6 a7 a8 n) 1 (nI i) fo fm a1 a2 a3 a4 a5 a6 a7 a8 := by
      intro g
      obtain ⟨tt, ht, h1, hz⟩ := hS i hi g
      unfold wX_isSound_31 wX_isSound_36
      exact br_f (by decide) (rt_dang0 hi ht h1 hz (br_t (by decide) (nm_r (nI_1 i) (hw () trivial))))
    refine pk_le 6 i (fun z => absurd z (by omega)) (fun _ => ?_)
    rw [ei]
    refine ⟨pk_in i 6 hi, br_c (fun g => ?_) (fun g => ⟨pk_in i 6 hi, br_c (fun _ => br_f (by decide) (h31 g)) (fun _ => h31 g)⟩)⟩
    unfold wX_isSound_35 wX_isSound_36
    exact br_t rfl (nm_r (nI_1 i) (hw () trivial))
theorem rt_snd0 {post : Int32 → Prop} {cc tt R K : Nat} (hc : cc < 6) (ht : tt < 3) (hR : R < 20) (hK : K < 20) (hlt : ∀ j, j < cc → a2 j < 0) (hcc : ¬ a2 cc < 0) (h1 : a1 cc = nI tt) (hz : ((a3 tt >>> (nI R &&& 31)) &&& 1) = 0) (h6 : rt_A a6 120 (20 * cc + R) 0 (rt_b K)) (H : post 0) : wpX_isSound post (fo, fm, a1, a2, a3, a4, a5, a6, a7, a8) 1 := by
  unfold wpX_isSound
  refine pk_loop (σ := Unit) (fun n i _ => wX_isSound_2 post 1 fo fm a1 a2 a3 a4 a5 a6 a7 a8 n (nI i)) (fun _ _ => True) cc 0 () (by omega) trivial ?_ ?_
  · intro n _ _
    have ei : (nI cc).toNatClampNeg = cc := nI_clamp (by omega)
    have h31 : wX_isSound_31 post (wX_isSound_2 post 1 fo fm a1 a2 a3 a4 a5 a6 a7 a8 n) 1 (nI cc) fo fm a1 a2 a3 a4 a5 a6 a7 a8 := by
      unfold wX_isSound_31 wX_isSound_36
      exact br_f (by decide) (rt_dang1 hc ht hR hK h1 hz h6 (br_f (by decide) H))
    refine pk_le 6 cc (fun z => absurd z (by omega)) (fun _ => ?_)
    rw [ei]
    exact ⟨pk_in cc 6 hc, br_f hcc ⟨pk_in cc 6 hc, br_c (fun _ => br_f (by decide) h31) (fun _ => h31)⟩⟩
  · intro n i _ hi _ hw
    have ei : (nI i).toNatClampNeg = i := nI_clamp (by omega)
    refine pk_le 6 i (fun z => absurd z (by omega)) (fun _ => ?_)
    rw [ei]
    refine ⟨pk_in i 6 (by omega), br_t (hlt i hi) ?_⟩
    unfold wX_isSound_35 wX_isSound_36
    exact br_t rfl (nm_r (nI_1 i) (hw () trivial))
/-- restore -/
theorem rt_rest72 {post : St2 → Prop} (H : ∀ a, post (fo, fm, a1, a2, a3, a4, a, a6, a7, a8)) : ∃ n, wX_restore_72 post (nI 732) fo fm n 0 a1 a2 a3 a4 a5 a6 a7 a8 :=
  pk_loop (fun n i s => wX_restore_72 post (nI 732) fo fm n (nI i) a1 a2 a3 a4 s a6 a7 a8) (fun _ _ => True) 60 0 a5 (by omega) trivial
    (fun n s _ => pk_le 60 60 (fun _ => H s) (fun z => absurd z (by omega)))
    (fun n i s hi _ hw => pk_le 60 i (fun z => absurd z (by omega)) (fun _ => ⟨pk_in (855 + i) 915 (by omega) (rt_i123 i), pk_in i 60 hi, nm_e (nm_r (nI_1 i) (hw _ trivial))⟩))
theorem rt_rest35 {post : St2 → Prop} {c K R : Nat} {r h : Int32} (hc : c < 6) (hK : K < 20) (hR : R < 20) (h4 : rt_A a4 120 (20 * c + K) (-1) r) (h6 : rt_A a6 120 (20 * c + R) 0 h) (hr : (r = -1 ∧ h = 0) ∨ (r = nI R ∧ h = rt_b K)) (h7 : ∀ j, j < 120 → a7 (735 + j) = -1)
    (H : ∀ b4 b5 b6, rt_U b4 120 (-1) → rt_U b6 120 0 → post (fo, fm, a1, a2, a3, b4, b5, b6, a7, a8)) : ∃ n, wX_restore_35 post (nI 732) n 0 fo fm a1 a2 a3 a4 a5 a6 a7 a8 := by
  refine pk_loop (σ := (Nat → Int32) × (Nat → Int32)) (fun n i s => wX_restore_35 post (nI 732) n (nI i) fo fm a1 a2 a3 s.1 a5 s.2 a7 a8) (fun i s => (i ≤ 20 * c + K ∧ s = (a4, a6)) ∨ (20 * c + K < i ∧ rt_U s.1 120 (-1) ∧ rt_U s.2 120 0)) 120 0 (a4, a6) (by omega) (Or.inl ⟨by omega, rfl⟩) ?_ ?_
  · intro n s hs
    rcases hs with ⟨hi, _⟩ | ⟨_, u4, u6⟩
    · omega
    · exact pk_le 120 120 (fun _ => rt_rest72 (fun a => H _ a _ u4 u6)) (fun z => absurd z (by omega))
  · intro n i s hi hs hw
    refine pk_le 120 i (fun z => absurd z (by omega)) (fun _ => ⟨by decide, by decide, pk_in (735 + i) 915 (by omega) (rt_i3 i), ?_⟩)
    rw [pk_cl (735 + i) (rt_i3 i), h7 i hi, rt_m20 i (by omega), rt_d20 i (by omega)]
    rcases hs with ⟨hle, rfl⟩ | ⟨hgt, u4, u6⟩
    · refine rt_setRefC hc hK hR (show i / 20 < 6 by omega) (show i % 20 < 20 by omega) h4 h6 hr (fun e1 e2 x b4 b6 u4 u6 => ?_) (fun e => ?_)
      · exact nm_r (nI_1 i) (hw (b4, b6) (Or.inr ⟨by omega, u4, u6⟩))
      · exact nm_r (nI_1 i) (hw (a4, a6) (Or.inl ⟨by omega, rfl⟩))
    · exact rt_setRefN (show i / 20 < 6 by omega) (show i % 20 < 20 by omega) (u4 _ (by omega)) (nm_r (nI_1 i) (hw s (Or.inr ⟨by omega, u4, u6⟩)))
theorem rt_rest {post : St2 → Prop} {c K R : Nat} {r h : Int32} (hc : c < 6) (hK : K < 20) (hR : R < 20) (h4 : rt_A a4 120 (20 * c + K) (-1) r) (h6 : rt_A a6 120 (20 * c + R) 0 h) (hr : (r = -1 ∧ h = 0) ∨ (r = nI R ∧ h = rt_b K)) (h3 : ∀ j, j < 3 → a7 (732 + j) = a3 j) (h7 : ∀ j, j < 120 → a7 (735 + j) = -1)
    (H : ∀ b3 b4 b5 b6, (∀ j, j < 3 → b3 j = a3 j) → rt_U b4 120 (-1) → rt_U b6 120 0 → post (fo, fm, a1, a2, b3, b4, b5, b6, a7, a8)) : wpX_restore post (fo, fm, a1, a2, a3, a4, a5, a6, a7, a8) 4 := by
  unfold wpX_restore
  refine nm_r (e' := nI 732) (by decide) ?_
  exact pk_loop (fun n i s => wX_restore_8 post (nI 732) fo fm n (nI i) a1 a2 s a4 a5 a6 a7 a8) (fun i s => ∀ j, j < i → s j = a3 j) 3 0 a3 (by omega) (fun j _ => rfl)
    (fun n s hs => pk_le 3 3 (fun _ => rt_rest35 hc hK hR h4 h6 hr h7 (fun b4 b5 b6 u4 u6 => H s b4 b5 b6 hs u4 u6)) (fun z => absurd z (by omega)))
    (fun n i s hi hs hw => pk_le 3 i (fun z => absurd z (by omega)) (fun _ => ⟨pk_in (732 + i) 915 (by omega) (rt_i0 i), pk_in i 3 hi, nm_e (nm_r (nI_1 i) (hw _ (rt_fill (f := a3) (nI_clamp (by omega)) hs (by rw [pk_cl (732 + i) (rt_i0 i)]; exact h3 i hi))))⟩))
/-- settle -/
theorem rt_settle1 {post : Int32 → St2 → Prop} {x : Int32} (hS : ∀ c, c < 6 → ¬ a2 c < 0 → rt_D a1 a3 a6 c) (H : post x (0, fm, a1, a2, a3, a4, a5, a6, a7, a8)) : wpX_settle post (0, fm, a1, a2, a3, a4, a5, a6, a7, a8) x := by
  unfold wpX_settle
  refine br_t rfl ?_
  unfold wX_settle_13
  exact rt_snd1 hS (br_f (by decide) H)
theorem rt_settle0 {post : Int32 → St2 → Prop} {x : Int32} {cc tt R K : Nat} (hc : cc < 6) (ht : tt < 3) (hR : R < 20) (hK : K < 20) (hlt : ∀ j, j < cc → a2 j < 0) (hcc : ¬ a2 cc < 0) (h1 : a1 cc = nI tt) (hz : ((a3 tt >>> (nI R &&& 31)) &&& 1) = 0)
    (h4 : rt_A a4 120 (20 * cc + K) (-1) (nI R)) (h6 : rt_A a6 120 (20 * cc + R) 0 (rt_b K)) (h3 : ∀ j, j < 3 → a7 (732 + j) = a3 j) (h7 : ∀ j, j < 120 → a7 (735 + j) = -1)
    (H : ∀ b3 b4 b5 b6, (∀ j, j < 3 → b3 j = a3 j) → rt_U b4 120 (-1) → rt_U b6 120 0 → post (-9) (0, fm, a1, a2, b3, b4, b5, b6, a7, a8)) : wpX_settle post (0, fm, a1, a2, a3, a4, a5, a6, a7, a8) x := by
  unfold wpX_settle
  refine br_t rfl ?_
  unfold wX_settle_13
  refine rt_snd0 hc ht hR hK hlt hcc h1 hz h6 (br_t rfl ?_)
  exact rt_rest hc hK hR h4 h6 (Or.inr ⟨rfl, rfl⟩) h3 h7 (fun b3 b4 b5 b6 g3 g4 g6 => H b3 b4 b5 b6 g3 g4 g6)
/-- refer -/
theorem rt_refT {post : Int32 → St2 → Prop} {t k c r : Int32} (ht : t < 0 ∨ 3 ≤ t) (H : post (-1) (fo, fm, a1, a2, a3, a4, a5, a6, a7, a8)) : wpX_refer post (fo, fm, a1, a2, a3, a4, a5, a6, a7, a8) t k c r := by
  unfold wpX_refer
  exact rt_tabF ht (br_t rfl H)
theorem rt_refK {post : Int32 → St2 → Prop} {T : Nat} {k c r : Int32} (hT : T < 3) (hk : k < 0 ∨ 20 ≤ k) (H : post (-2) (fo, fm, a1, a2, a3, a4, a5, a6, a7, a8)) : wpX_refer post (fo, fm, a1, a2, a3, a4, a5, a6, a7, a8) (nI T) k c r := by
  unfold wpX_refer
  exact rt_tab hT (br_f (by decide) (rt_hasF hk (br_t rfl H)))
theorem rt_refC {post : Int32 → St2 → Prop} {T K : Nat} {c r : Int32} (hT : T < 3) (hK : K < 20) (h3 : a3 T = rt_b K) (h0 : ¬ c = 0) (h1 : ¬ c = 1) (H : post (-3) (fo, fm, a1, a2, a3, a4, a5, a6, a7, a8)) : wpX_refer post (fo, fm, a1, a2, a3, a4, a5, a6, a7, a8) (nI T) (nI K) c r := by
  unfold wpX_refer
  exact rt_tab hT (br_f (by decide) (rt_has1 hT hK h3 (br_f (by decide) (rt_colF h0 h1 (br_t rfl H)))))
theorem rt_refR {post : Int32 → St2 → Prop} {T K C : Nat} {r : Int32} (hT : T < 3) (hK : K < 20) (hC : C < 2) (h3 : a3 T = rt_b K) (hr : r < (-1) ∨ ¬ r < 20) (H : post (-4) (fo, fm, a1, a2, a3, a4, a5, a6, a7, a8)) : wpX_refer post (fo, fm, a1, a2, a3, a4, a5, a6, a7, a8) (nI T) (nI K) (nI C) r := by
  unfold wpX_refer
  exact rt_tab hT (br_f (by decide) (rt_has1 hT hK h3 (br_f (by decide) (rt_col hC (br_f (by decide) (br_c (fun _ => H) (fun z => br_f (hr.resolve_left z) H)))))))
theorem rt_refIn {post : Int32 → St2 → Prop} {T K C R : Nat} {r h : Int32} (hT : T < 3) (hK : K < 20) (hC : C < 2) (hR : R < 20) (h3 : a3 T = rt_b K) (h4 : rt_U a4 120 (-1)) (h6 : rt_U a6 120 0) (hr : (r = -1 ∧ h = 0) ∨ (r = nI R ∧ h = rt_b K))
    (H : ∀ b4 b6 b7, rt_A b4 120 (20 * (2 * T + C) + K) (-1) r → rt_A b6 120 (20 * (2 * T + C) + R) 0 h → (∀ j, j < 3 → b7 (732 + j) = a3 j) → (∀ j, j < 120 → b7 (735 + j) = -1) → wpX_settle post (fo, fm, a1, a2, a3, b4, a5, b6, b7, a8) (-1)) : wpX_refer post (fo, fm, a1, a2, a3, a4, a5, a6, a7, a8) (nI T) (nI K) (nI C) r := by
  have g1 : ¬ r < (-1) := by
    rcases hr with ⟨rfl, _⟩ | ⟨rfl, _⟩
    · decide
    · exact rt_nlm1 (by omega)
  have g2 : r < 20 := by
    rcases hr with ⟨rfl, _⟩ | ⟨rfl, _⟩
    · decide
    · exact nI_lt (b := 20) hR (by omega)
  unfold wpX_refer
  refine rt_tab hT (br_f (by decide) (rt_has1 hT hK h3 (br_f (by decide) (rt_col hC (br_f (by decide) (br_f g1 (br_t g2 (rt_keep (fun b7 k3 k4 => ?_)))))))))
  refine nm_r (rt_ix2 T C) ⟨rt_in (2 * T + C) K 120 (by omega) (by omega), nm_r (e' := -1) (by rw [rt_cl (2 * T + C) K (by omega)]; exact h4 _ (by omega)) ?_⟩
  refine rt_setRefS (show 2 * T + C < 6 by omega) hK hR h4 h6 hr (fun x b4 b6 u4 u6 => ?_)
  exact H b4 b6 b7 u4 u6 k3 (fun j hj => by rw [k4 j hj]; exact h4 j hj)
theorem rt_refY {post : Int32 → St2 → Prop} {T K C R : Nat} {r h : Int32} (hT : T < 3) (hK : K < 20) (hC : C < 2) (hR : R < 20) (h3 : rt_A a3 3 T 0 (rt_b K)) (h4 : rt_U a4 120 (-1)) (h6 : rt_U a6 120 0) (hr : (r = -1 ∧ h = 0) ∨ (r = nI R ∧ h = rt_b K))
    (hs : ∀ j, j < 6 → ¬ a2 j < 0 → j = 2 * T + C ∧ ∃ tt, tt < 3 ∧ a1 j = nI tt ∧ (h = 0 ∨ (tt = T ∧ R = K)))
    (H : ∀ b4 b6 b7, rt_A b4 120 (20 * (2 * T + C) + K) (-1) r → rt_A b6 120 (20 * (2 * T + C) + R) 0 h → post (-1) (0, fm, a1, a2, a3, b4, a5, b6, b7, a8)) : wpX_refer post (0, fm, a1, a2, a3, a4, a5, a6, a7, a8) (nI T) (nI K) (nI C) r := by
  refine rt_refIn hT hK hC hR (rt_A_at h3 hT) h4 h6 hr (fun b4 b6 b7 u4 u6 _ _ => rt_settle1 (fun c hc g => ?_) (H b4 b6 b7 u4 u6))
  obtain ⟨rfl, tt, ht, e1, hh⟩ := hs c hc g
  refine ⟨tt, ht, e1, fun k hk => ?_⟩
  by_cases e : k = R
  · rcases hh with rfl | ⟨rfl, rfl⟩
    · exact Or.inr (rt_A_U u6 rfl _ (by omega))
    · refine Or.inl ?_
      rw [e, rt_A_at h3 hT, rt_bitS hK]
      decide
  · exact Or.inr (rt_A_ne u6 (by omega) (by omega))
theorem rt_refN {post : Int32 → St2 → Prop} {T K C R tt : Nat} (hT : T < 3) (hK : K < 20) (hC : C < 2) (hR : R < 20) (ht : tt < 3) (h3 : rt_A a3 3 T 0 (rt_b K)) (h4 : rt_U a4 120 (-1)) (h6 : rt_U a6 120 0)
    (hlt : ∀ j, j < 2 * T + C → a2 j < 0) (hcc : ¬ a2 (2 * T + C) < 0) (h1 : a1 (2 * T + C) = nI tt) (hn : ¬ (tt = T ∧ R = K))
    (H : ∀ b3 b4 b5 b6 b7, rt_A b3 3 T 0 (rt_b K) → rt_U b4 120 (-1) → rt_U b6 120 0 → post (-9) (0, fm, a1, a2, b3, b4, b5, b6, b7, a8)) : wpX_refer post (0, fm, a1, a2, a3, a4, a5, a6, a7, a8) (nI T) (nI K) (nI C) (nI R) := by
  refine rt_refIn hT hK hC hR (rt_A_at h3 hT) h4 h6 (Or.inr ⟨rfl, rfl⟩) (fun b4 b6 b7 u4 u6 k3 k7 => ?_)
  refine rt_settle0 (show 2 * T + C < 6 by omega) ht hR hK hlt hcc h1 ?_ u4 u6 k3 k7 (fun b3 c4 b5 c6 g3 g4 g6 => H b3 c4 b5 c6 b7 (fun j hj => by rw [g3 j hj]; exact h3 j hj) g4 g6)
  by_cases e : tt = T
  · rw [e, rt_A_at h3 hT]
    exact rt_bitN hK hR (fun z => hn ⟨e, z⟩)
  · rw [rt_A_ne h3 ht e]
    exact rt_bit0 R hR
end
end
section
theorem rt_ix3 (T C K : Nat) : (20 : Int32) * ((2 : Int32) * nI T + nI C) + nI K = nI (20 * (2 * T + C) + K) := by rw [rt_ix2, rt_ix]
theorem rt_fresh {r b m : Int32} (h : r = 0 ∨ r = b) (hb : b &&& m = 0) : r &&& m = 0 := by
  rcases h with e | e
  · rw [e]
    exact Int32.zero_and
  · rw [e]
    exact hb
theorem rt_same (a : Nat → Int32) (k : Nat) : upd a k (a k ||| 0) = a := by
  rw [Int32.or_zero]
  funext j
  by_cases e : j = k
  · rw [e, pk_us]
  · rw [pk_un e]
/-- a column: what refers to it is b or nothing, and b is below what goes of its table -/
def rt_Z (a1 a6 a8 : Nat → Int32) (j : Nat) : Prop := ∃ tt b, tt < 3 ∧ a1 j = nI tt ∧ (∀ k, k < 20 → a6 (20 * j + k) = 0 ∨ a6 (20 * j + k) = b) ∧ b &&& (a8 (j / 2) ^^^ (-1)) = 0
section
variable {fo fm : Int32} {a1 a2 a3 a4 a5 a6 a7 a8 : Nat → Int32}
/-- reference -/
theorem rt_rfcT {post : Int32 → Prop} {t k c : Int32} (ht : t < 0 ∨ 3 ≤ t) (H : post (-2)) : wpX_reference post (fo, fm, a1, a2, a3, a4, a5, a6, a7, a8) t k c := by
  unfold wpX_reference
  exact rt_tabF ht (br_t rfl H)
theorem rt_rfcK {post : Int32 → Prop} {T : Nat} {k c : Int32} (hT : T < 3) (hk : k < 0 ∨ 20 ≤ k) (H : post (-3)) : wpX_reference post (fo, fm, a1, a2, a3, a4, a5, a6, a7, a8) (nI T) k c := by
  unfold wpX_reference
  exact rt_tab hT (br_f (by decide) (rt_hasF hk (br_t rfl H)))
theorem rt_rfcC {post : Int32 → Prop} {T K : Nat} {c : Int32} (hT : T < 3) (hK : K < 20) (h3 : a3 T = rt_b K) (h0 : ¬ c = 0) (h1 : ¬ c = 1) (H : post (-4)) : wpX_reference post (fo, fm, a1, a2, a3, a4, a5, a6, a7, a8) (nI T) (nI K) c := by
  unfold wpX_reference
  exact rt_tab hT (br_f (by decide) (rt_has1 hT hK h3 (br_f (by decide) (rt_colF h0 h1 (br_t rfl H)))))
theorem rt_rfcY {post : Int32 → Prop} {T K C : Nat} (hT : T < 3) (hK : K < 20) (hC : C < 2) (h3 : a3 T = rt_b K) (H : post (a4 (20 * (2 * T + C) + K))) : wpX_reference post (fo, fm, a1, a2, a3, a4, a5, a6, a7, a8) (nI T) (nI K) (nI C) := by
  unfold wpX_reference
  refine rt_tab hT (br_f (by decide) (rt_has1 hT hK h3 (br_f (by decide) (rt_col hC (br_f (by decide) ⟨pk_in (20 * (2 * T + C) + K) 120 (by omega) (rt_ix3 T C K), ?_⟩)))))
  rw [pk_cl (20 * (2 * T + C) + K) (rt_ix3 T C K)]
  exact H
/-- referrers -/
theorem rt_rrsT {post : Int32 → Prop} {t k : Int32} (ht : t < 0 ∨ 3 ≤ t) (H : post (-1)) : wpX_referrers post (fo, fm, a1, a2, a3, a4, a5, a6, a7, a8) t k := by
  unfold wpX_referrers
  exact rt_tabF ht (br_t rfl H)
theorem rt_rrsK {post : Int32 → Prop} {T : Nat} {k : Int32} (hT : T < 3) (hk : k < 0 ∨ 20 ≤ k) (H : post (-2)) : wpX_referrers post (fo, fm, a1, a2, a3, a4, a5, a6, a7, a8) (nI T) k := by
  unfold wpX_referrers
  exact rt_tab hT (br_f (by decide) (rt_hasF hk (br_t rfl H)))
theorem rt_rrs0 {post : Int32 → Prop} {T K : Nat} (hT : T < 3) (hK : K < 20) (h3 : a3 T = rt_b K) (hz : ∀ j, j < 6 → ¬ a2 j < 0 → ¬ a1 j = nI T ∨ a6 (20 * j + K) = 0) (H : post 0) : wpX_referrers post (fo, fm, a1, a2, a3, a4, a5, a6, a7, a8) (nI T) (nI K) := by
  unfold wpX_referrers
  refine rt_tab hT (br_f (by decide) (rt_has1 hT hK h3 (br_f (by decide) ?_)))
  refine pk_loop (σ := Unit) (fun n i _ => wX_referrers_26 post (nI T) (nI K) fo fm a1 a2 a3 a4 a5 a6 a7 a8 n 0 (nI i)) (fun _ _ => True) 6 0 () (by omega) trivial ?_ ?_
  · intro n _ _
    exact pk_le 6 6 (fun _ => H) (fun z => absurd z (by omega))
  · intro n i _ hi _ hw
    have ei : (nI i).toNatClampNeg = i := nI_clamp (by omega)
    refine pk_le 6 i (fun z => absurd z (by omega)) (fun _ => ?_)
    rw [ei]
    refine ⟨pk_in i 6 hi, br_c (fun _ => nm_r (nI_1 i) (hw () trivial)) (fun g => ⟨pk_in i 6 hi, br_c (fun z => ⟨rt_in i K 120 (by omega) (by omega), ?_⟩) (fun _ => nm_r (nI_1 i) (hw () trivial))⟩)⟩
    rw [rt_cl i K (by omega), (hz i hi g).resolve_left (fun y => y z)]
    exact rt_ones0 (nm_r (e' := 0) (by decide) (nm_r (nI_1 i) (hw () trivial)))
theorem rt_rrs1 {post : Int32 → Prop} {T K cc : Nat} (hT : T < 3) (hK : K < 20) (hc : cc < 6) (h3 : a3 T = rt_b K) (hne : ∀ j, j < 6 → j ≠ cc → a2 j < 0) (hcc : ¬ a2 cc < 0) (h1 : a1 cc = nI T) (h6 : a6 (20 * cc + K) = rt_b K) (H : post 1) : wpX_referrers post (fo, fm, a1, a2, a3, a4, a5, a6, a7, a8) (nI T) (nI K) := by
  unfold wpX_referrers
  refine rt_tab hT (br_f (by decide) (rt_has1 hT hK h3 (br_f (by decide) ?_)))
  refine pk_loop (fun n i s => wX_referrers_26 post (nI T) (nI K) fo fm a1 a2 a3 a4 a5 a6 a7 a8 n s (nI i)) (fun i s => s = if cc < i then 1 else 0) 6 0 0 (by omega) (by rw [if_neg (by omega)]) ?_ ?_
  · intro n s h
    rw [if_pos hc] at h
    subst h
    exact pk_le 6 6 (fun _ => H) (fun z => absurd z (by omega))
  · intro n i s hi h hw
    have ei : (nI i).toNatClampNeg = i := nI_clamp (by omega)
    refine pk_le 6 i (fun z => absurd z (by omega)) (fun _ => ?_)
    rw [ei]
    by_cases e : i = cc
    · rw [if_neg (by omega)] at h
      subst e
      refine ⟨pk_in i 6 hi, br_f hcc ⟨pk_in i 6 hi, br_t h1 ⟨rt_in i K 120 (by omega) (by omega), ?_⟩⟩⟩
      rw [rt_cl i K (by omega), h6]
      exact rt_ones1 hK (nm_r (e' := 1) (by rw [h]; decide) (nm_r (nI_1 i) (hw 1 (by rw [if_pos (by omega)]))))
    · refine ⟨pk_in i 6 hi, br_t (hne i hi e) (nm_r (nI_1 i) (hw s ?_))⟩
      rw [h]
      by_cases g : cc < i
      · rw [if_pos g, if_pos (by omega)]
      · rw [if_neg g, if_neg (by omega)]
/-- holdersOf -/
theorem rt_hold {post : Int32 → Prop} {c : Nat} {w b : Int32} (hc : c < 6) (h : ∀ k, k < 20 → a6 (20 * c + k) = 0 ∨ a6 (20 * c + k) = b) (H : ∀ r, r = 0 ∨ r = b → post r) : wpX_holdersOf post (fo, fm, a1, a2, a3, a4, a5, a6, a7, a8) (nI c) w := by
  unfold wpX_holdersOf
  refine pk_loop (fun n i s => wX_holdersOf_5 post (nI c) w fo fm a1 a2 a3 a4 a5 a6 a7 a8 n s (nI i)) (fun _ s => s = 0 ∨ s = b) 20 0 0 (by omega) (Or.inl rfl) ?_ ?_
  · intro n s hs
    exact pk_le 20 20 (fun _ => H s hs) (fun z => absurd z (by omega))
  · intro n i s hi hs hw
    refine pk_le 20 i (fun z => absurd z (by omega)) (fun _ => br_c (fun _ => ⟨rt_in c i 120 (by omega) (by omega), ?_⟩) (fun _ => nm_r (e' := s) Int32.or_zero (nm_r (nI_1 i) (hw s hs))))
    refine nm_e (nm_r (nI_1 i) (hw _ ?_))
    rw [rt_cl c i (by omega)]
    rcases hs with e0 | e0
    · rcases h i hi with e | e
      · rw [e0, e]
        exact Or.inl Int32.or_self
      · rw [e0, e]
        exact Or.inr Int32.zero_or
    · rcases h i hi with e | e
      · rw [e0, e]
        exact Or.inr Int32.or_zero
      · rw [e0, e]
        exact Or.inr Int32.or_self
/-- spread -/
theorem rt_sp146 {post : Int32 → St2 → Prop} (hZ : ∀ j, j < 6 → ¬ a2 j < 0 → rt_Z a1 a6 a8 j) (H : post 1 (fo, fm, a1, a2, a3, a4, a5, a6, a7, a8)) : ∃ n, wX_spread_146 post fo fm a1 a2 a3 a4 a5 a6 a7 a8 n 0 := by
  refine pk_loop (σ := Unit) (fun n i _ => wX_spread_146 post fo fm a1 a2 a3 a4 a5 a6 a7 a8 n (nI i)) (fun _ _ => True) 6 0 () (by omega) trivial ?_ ?_
  · intro n _ _
    exact pk_le 6 6 (fun _ => H) (fun z => absurd z (by omega))
  · intro n i _ hi _ hw
    have ei : (nI i).toNatClampNeg = i := nI_clamp (by omega)
    refine pk_le 6 i (fun z => absurd z (by omega)) (fun _ => ?_)
    rw [ei]
    refine ⟨pk_in i 6 hi, br_c (fun z => ?_) (fun _ => nm_r (nI_1 i) (hw () trivial))⟩
    obtain ⟨tt, b, ht, e1, hb, hm⟩ := hZ i hi (by rw [z]; decide)
    rw [e1, nI_clamp (show tt < 2 ^ 31 by omega), rt_d2 i (by omega), nI_clamp (show i / 2 < 2 ^ 31 by omega)]
    exact ⟨pk_in i 6 hi, pk_in tt 3 ht, rt_hold hi hb (fun r hr => ⟨by decide, pk_in (i / 2) 3 (by omega), nm_r (rt_fresh hr hm) (br_t rfl (nm_r (nI_1 i) (hw () trivial)))⟩)⟩
theorem rt_sp52 {post : Int32 → St2 → Prop} {J : Int32 → Int32 → (Nat → Int32) → (Nat → Int32) → (Nat → Int32) → (Nat → Int32) → (Nat → Int32) → (Nat → Int32) → (Nat → Int32) → (Nat → Int32) → Prop} {x4 : Int32} (hZ : ∀ j, j < 6 → ¬ a2 j < 0 → rt_Z a1 a6 a8 j) (H : J 0 (x4 + 1) a1 a2 a3 a4 a5 a6 a7 a8) : ∃ n, wX_spread_52 post J x4 fo fm n 0 0 a1 a2 a3 a4 a5 a6 a7 a8 := by
  refine pk_loop (σ := Unit) (fun n i _ => wX_spread_52 post J x4 fo fm n 0 (nI i) a1 a2 a3 a4 a5 a6 a7 a8) (fun _ _ => True) 6 0 () (by omega) trivial ?_ ?_
  · intro n _ _
    exact pk_le 6 6 (fun _ => nm_e H) (fun z => absurd z (by omega))
  · intro n i _ hi _ hw
    have ei : (nI i).toNatClampNeg = i := nI_clamp (by omega)
    refine pk_le 6 i (fun z => absurd z (by omega)) (fun _ => ?_)
    rw [ei]
    refine ⟨pk_in i 6 hi, br_c (fun z => ?_) (fun _ => nm_r (nI_1 i) (hw () trivial))⟩
    obtain ⟨tt, b, ht, e1, hb, hm⟩ := hZ i hi (by rw [z]; decide)
    rw [e1, nI_clamp (show tt < 2 ^ 31 by omega), rt_d2 i (by omega), nI_clamp (show i / 2 < 2 ^ 31 by omega)]
    exact ⟨pk_in i 6 hi, pk_in tt 3 ht, rt_hold hi hb (fun r hr => ⟨by decide, pk_in (i / 2) 3 (by omega), nm_r (rt_fresh hr hm) ⟨by decide, pk_in (i / 2) 3 (by omega), pk_in (i / 2) 3 (by omega), nm_r (rt_same a8 (i / 2)) (br_t rfl (br_t rfl (nm_r (nI_1 i) (hw () trivial))))⟩⟩)⟩
theorem rt_sp36 {post : Int32 → St2 → Prop} (hZ : ∀ j, j < 6 → ¬ a2 j < 0 → rt_Z a1 a6 a8 j) (H : post 1 (fo, fm, a1, a2, a3, a4, a5, a6, a7, a8)) : ∃ n, wX_spread_36 post fo fm n 1 0 a1 a2 a3 a4 a5 a6 a7 a8 :=
  ⟨2, br_f (by decide) (br_f (by decide) (rt_sp52 hZ (br_f (by decide) (br_t rfl (rt_sp146 hZ H)))))⟩
theorem rt_spread {post : Int32 → St2 → Prop} {T K : Nat} (hT : T < 3) (hZ : ∀ b8, rt_A b8 3 T 0 (rt_b K) → ∀ j, j < 6 → ¬ a2 j < 0 → rt_Z a1 a6 b8 j) (H : ∀ b8, rt_A b8 3 T 0 (rt_b K) → post 1 (fo, fm, a1, a2, a3, a4, a5, a6, a7, b8)) : wpX_spread post (fo, fm, a1, a2, a3, a4, a5, a6, a7, a8) (nI T) (nI K) := by
  unfold wpX_spread
  refine pk_loop (fun n i s => wX_spread_2 post (nI T) (nI K) fo fm n (nI i) a1 a2 a3 a4 a5 a6 a7 s) (fun i s => ∀ j, j < i → s j = if j = T then rt_b K else 0) 3 0 a8 (by omega) (fun j hj => absurd hj (by omega)) ?_ ?_
  · intro n s h
    exact pk_le 3 3 (fun _ => rt_sp36 (hZ s h) (H s h)) (fun z => absurd z (by omega))
  · intro n i s hi h hw
    refine pk_le 3 i (fun z => absurd z (by omega)) (fun _ => pk_eq i T (fun e => ⟨pk_in i 3 hi, nm_e (nm_r (nI_1 i) (hw _ (rt_fill (f := fun j => if j = T then rt_b K else 0) (nI_clamp (by omega)) h ?_)))⟩) (fun e => ⟨pk_in i 3 hi, nm_e (nm_r (nI_1 i) (hw _ (rt_fill (f := fun j => if j = T then rt_b K else 0) (nI_clamp (by omega)) h ?_)))⟩))
    · exact (if_pos e).symm
    · exact (if_neg e).symm
/-- clearRefs -/
theorem rt_clr {post : Int32 → St2 → Prop} {c : Nat} {w b x : Int32} (hc : c < 6) (hb : ∀ k, k < 20 → a6 (20 * c + k) = 0 ∨ a6 (20 * c + k) = b) (hm : b &&& (x ^^^ (-1)) = 0) (H : post 0 (fo, fm, a1, a2, a3, a4, a5, a6, a7, a8)) : wpX_clearRefs post (fo, fm, a1, a2, a3, a4, a5, a6, a7, a8) (nI c) w x := by
  unfold wpX_clearRefs
  refine rt_hold hc hb (fun r hr => nm_r (rt_fresh hr hm) ?_)
  refine pk_loop (σ := Unit) (fun n i _ => wX_clearRefs_15 post (nI c) 0 n (nI i) fo fm a1 a2 a3 a4 a5 a6 a7 a8) (fun _ _ => True) 20 0 () (by omega) trivial ?_ ?_
  · intro n _ _
    exact pk_le 20 20 (fun _ => rt_ones0 H) (fun z => absurd z (by omega))
  · intro n i _ hi _ hw
    exact pk_le 20 i (fun z => absurd z (by omega)) (fun _ => br_f (by rw [rt_bit0 i hi]; decide) (nm_r (nI_1 i) (hw () trivial)))
/-- dropRow -/
theorem rt_drop {post : St2 → Prop} {T K c R : Nat} {r h : Int32} (hT : T < 3) (hK : K < 20) (hR : R < 20) (hc : c < 6) (hcT : c / 2 = T) (h4 : rt_A a4 120 (20 * c + K) (-1) r) (h6 : rt_A a6 120 (20 * c + R) 0 h) (hr : (r = -1 ∧ h = 0) ∨ (r = nI R ∧ h = rt_b K))
    (H : ∀ b3 b4 b5 b6, rt_U b6 120 0 → post (fo, fm, a1, a2, b3, b4, b5, b6, a7, a8)) : wpX_dropRow post (fo, fm, a1, a2, a3, a4, a5, a6, a7, a8) (nI T) (nI K) := by
  have e0 : (2 : Int32) * nI T = nI (2 * T) := by
    show nI 2 * nI T = _
    rw [pk_mul]
  unfold wpX_dropRow
  rw [e0, nI_1]
  refine rt_setRefC hc hK hR (show 2 * T < 6 by omega) hK h4 h6 hr (fun ec _ x b4 b6 u4 u6 => ?_) (fun ne => ?_)
  · exact rt_setRefN (show 2 * T + 1 < 6 by omega) hK (u4 _ (by omega)) ⟨rt_in T K 60 (by omega) (by omega), nm_e ⟨pk_in T 3 hT, pk_in T 3 hT, nm_e (H _ _ _ _ u6)⟩⟩
  · have ec : 2 * T + 1 = c := by
      have : ¬ 2 * T = c := fun z => ne ⟨z, rfl⟩
      omega
    exact rt_setRefC hc hK hR (show 2 * T + 1 < 6 by omega) hK h4 h6 hr (fun _ _ x b4 b6 u4 u6 => ⟨rt_in T K 60 (by omega) (by omega), nm_e ⟨pk_in T 3 hT, pk_in T 3 hT, nm_e (H _ _ _ _ u6)⟩⟩) (fun ne2 => absurd ⟨ec, rfl⟩ ne2)
/-- remove -/
theorem rt_rem101 {post : Int32 → St2 → Prop} {T K c R : Nat} {r h : Int32} (hT : T < 3) (hK : K < 20) (hR : R < 20) (hc : c < 6) (hcT : c / 2 = T) (h4 : rt_A a4 120 (20 * c + K) (-1) r) (h6 : rt_A a6 120 (20 * c + R) 0 h) (hr : (r = -1 ∧ h = 0) ∨ (r = nI R ∧ h = rt_b K))
    (h8 : rt_A a8 3 T 0 (rt_b K)) (hl : ∀ j, j < 6 → ¬ a2 j < 0 → ∃ tt, tt < 3 ∧ a1 j = nI tt) (H : ∀ s, post 1 s) : ∃ n, wX_remove_101 post n 0 0 0 fm a1 a2 a3 a4 a5 a6 a7 a8 := by
  refine pk_loop (σ := Int32 × (Nat → Int32) × (Nat → Int32) × (Nat → Int32) × (Nat → Int32)) (fun n i s => wX_remove_101 post n s.1 (nI i) 0 fm a1 a2 s.2.1 s.2.2.1 s.2.2.2.1 s.2.2.2.2 a7 a8) (fun i s => (i ≤ 20 * T + K ∧ s = (0, a3, a4, a5, a6)) ∨ (20 * T + K < i ∧ s.1 = 1 ∧ rt_U s.2.2.2.2 120 0)) 60 0 (0, a3, a4, a5, a6) (by omega) (Or.inl ⟨by omega, rfl⟩) ?_ ?_
  · intro n s hs
    rcases hs with ⟨hi, _⟩ | ⟨_, e1, u6⟩
    · omega
    · refine pk_le 60 60 (fun _ => rt_settle1 (fun d hd g => ?_) ?_) (fun z => absurd z (by omega))
      · obtain ⟨tt, ht, e⟩ := hl d hd g
        exact ⟨tt, ht, e, fun k hk => Or.inr (u6 _ (by omega))⟩
      · rw [e1]
        exact H _
  · intro n i s hi hs hw
    refine pk_le 60 i (fun z => absurd z (by omega)) (fun _ => ?_)
    rw [rt_m20 i (by omega), rt_d20 i (by omega), nI_clamp (show i / 20 < 2 ^ 31 by omega)]
    refine ⟨by decide, pk_in (i / 20) 3 (by omega), by decide, ?_⟩
    by_cases e : i = 20 * T + K
    · have eT : i / 20 = T := by omega
      have eK : i % 20 = K := by omega
      rw [eT, eK, rt_A_at h8 hT]
      refine br_t (rt_bitS hK) ⟨by decide, by decide, ?_⟩
      rcases hs with ⟨_, rfl⟩ | ⟨g, _⟩
      · exact rt_drop hT hK hR hc hcT h4 h6 hr (fun b3 b4 b5 b6 u6 => nm_r (e' := 1) (show (0 : Int32) + 1 = 1 by decide) (nm_r (nI_1 i) (hw (1, b3, b4, b5, b6) (Or.inr ⟨by omega, rfl, u6⟩))))
      · omega
    · refine br_f ?_ (nm_r (nI_1 i) (hw s ?_))
      · by_cases eT : i / 20 = T
        · rw [eT, rt_A_at h8 hT, rt_bitN hK (show i % 20 < 20 by omega) (by omega)]
          decide
        · rw [rt_A_ne h8 (by omega) eT, rt_bit0 _ (show i % 20 < 20 by omega)]
          decide
      · rcases hs with ⟨g, e2⟩ | ⟨g, e1, u6⟩
        · exact Or.inl ⟨by omega, e2⟩
        · exact Or.inr ⟨by omega, e1, u6⟩
theorem rt_rem43 {post : Int32 → St2 → Prop} (hZ : ∀ j, j < 6 → ¬ a2 j < 0 → rt_Z a1 a6 a8 j) (H : ∃ n, wX_remove_101 post n 0 0 fo fm a1 a2 a3 a4 a5 a6 a7 a8) : ∃ n, wX_remove_43 post n 0 fo fm a1 a2 a3 a4 a5 a6 a7 a8 := by
  refine pk_loop (σ := Unit) (fun n i _ => wX_remove_43 post n (nI i) fo fm a1 a2 a3 a4 a5 a6 a7 a8) (fun _ _ => True) 6 0 () (by omega) trivial ?_ ?_
  · intro n _ _
    exact pk_le 6 6 (fun _ => H) (fun z => absurd z (by omega))
  · intro n i _ hi _ hw
    have ei : (nI i).toNatClampNeg = i := nI_clamp (by omega)
    refine pk_le 6 i (fun z => absurd z (by omega)) (fun _ => ?_)
    rw [ei]
    refine ⟨pk_in i 6 hi, br_c (fun z => ?_) (fun _ => nm_r (nI_1 i) (hw () trivial))⟩
    obtain ⟨tt, b, ht, e1, hb, hm⟩ := hZ i hi (by rw [z]; decide)
    rw [e1, nI_clamp (show tt < 2 ^ 31 by omega), rt_d2 i (by omega), nI_clamp (show i / 2 < 2 ^ 31 by omega)]
    exact ⟨pk_in i 6 hi, pk_in tt 3 ht, by decide, pk_in (i / 2) 3 (by omega), rt_clr hi hb hm (nm_r (nI_1 i) (hw () trivial))⟩
theorem rt_remT {post : Int32 → St2 → Prop} {t k : Int32} (ht : t < 0 ∨ 3 ≤ t) (H : ∀ s, post (-1) s) : wpX_remove post (fo, fm, a1, a2, a3, a4, a5, a6, a7, a8) t k := by
  unfold wpX_remove
  exact rt_tabF ht (br_t rfl (H _))
theorem rt_remK {post : Int32 → St2 → Prop} {T : Nat} {k : Int32} (hT : T < 3) (hk : k < 0 ∨ 20 ≤ k) (H : ∀ s, post (-2) s) : wpX_remove post (fo, fm, a1, a2, a3, a4, a5, a6, a7, a8) (nI T) k := by
  unfold wpX_remove
  exact rt_tab hT (br_f (by decide) (rt_hasF hk (br_t rfl (H _))))
theorem rt_remY {post : Int32 → St2 → Prop} {T K c R : Nat} {r h : Int32} (hT : T < 3) (hK : K < 20) (hR : R < 20) (hc : c < 6) (hcT : c / 2 = T) (h3 : a3 T = rt_b K) (h4 : rt_A a4 120 (20 * c + K) (-1) r) (h6 : rt_A a6 120 (20 * c + R) 0 h) (hr : (r = -1 ∧ h = 0) ∨ (r = nI R ∧ h = rt_b K))
    (hl : ∀ j, j < 6 → ¬ a2 j < 0 → (h = 0 ∨ j = c) ∧ ∃ tt, tt < 3 ∧ a1 j = nI tt) (H : ∀ s, post 1 s) : wpX_remove post (0, fm, a1, a2, a3, a4, a5, a6, a7, a8) (nI T) (nI K) := by
  have hZ : ∀ b8, rt_A b8 3 T 0 (rt_b K) → ∀ j, j < 6 → ¬ a2 j < 0 → rt_Z a1 a6 b8 j := by
    intro b8 u8 j hj g
    obtain ⟨hh, tt, ht, e1⟩ := hl j hj g
    rcases hh with hh | hh
    · exact ⟨tt, 0, ht, e1, fun k hk => Or.inl (rt_A_U h6 hh _ (by omega)), Int32.zero_and⟩
    · subst hh
      refine ⟨tt, h, ht, e1, fun k hk => ?_, ?_⟩
      · by_cases e : k = R
        · rw [e]
          exact Or.inr (rt_A_at h6 (by omega))
        · exact Or.inl (rt_A_ne h6 (by omega) (by omega))
      · rw [hcT, rt_A_at u8 hT]
        rcases hr with ⟨_, e⟩ | ⟨_, e⟩
        · rw [e]
          exact Int32.zero_and
        · rw [e]
          exact rt_bcl K hK
  unfold wpX_remove
  exact rt_tab hT (br_f (by decide) (rt_has1 hT hK h3 (br_f (by decide) (rt_spread hT hZ (fun b8 u8 => br_f (by decide) (rt_keep (fun b7 _ _ => rt_rem43 (hZ b8 u8) (rt_rem101 hT hK hR hc hcT h4 h6 hr u8 (fun j hj g => (hl j hj g).2) H))))))))
end
end
section
section
variable {post : Int32 → St0 → Prop} {mc ms kc ks : Nat} {x0 x1 x2 x3 x4 x5 x8 x9 x10 x11 x12 x13 x15 z0 : Int32} {fo fm : Int32} {a1 a2 a3 a4 a5 a6 a7 a8 : Nat → Int32}
/-- the table is none -/
theorem rt_A467 (hp : post 1 ()) (ht : x0 < 0 ∨ 3 ≤ x0) : wL_lawOf_467 post mc ms x0 x4 0 x11 (-1) (-1) kc ks fo fm a1 a2 a3 a4 a5 a6 a7 a8 := by
  unfold wL_lawOf_467
  refine br_t rfl (rt_remT ht ?_)
  rintro ⟨_, _, _, _, _, _, _, _, _, _⟩
  exact br_t rfl (br_t rfl hp)
theorem rt_A428 (hp : post 1 ()) (ht : x0 < 0 ∨ 3 ≤ x0) : wL_lawOf_428 post mc ms x0 x4 0 x11 z0 kc ks fo fm a1 a2 a3 a4 a5 a6 a7 a8 := by
  unfold wL_lawOf_428
  exact rt_rrsT ht (br_t rfl (rt_A467 hp ht))
theorem rt_A427 (hp : post 1 ()) (ht : x0 < 0 ∨ 3 ≤ x0) : wL_lawOf_427 post mc ms x0 x4 0 x11 kc ks fo fm a1 a2 a3 a4 a5 a6 a7 a8 := by
  unfold wL_lawOf_427
  exact rt_A428 hp ht
theorem rt_A403 (hp : post 1 ()) (ht : x0 < 0 ∨ 3 ≤ x0) : wL_lawOf_403 post mc ms x0 x4 x5 0 x10 x11 x15 (-2) (-2) kc ks fo fm a1 a2 a3 a4 a5 a6 a7 a8 := by
  unfold wL_lawOf_403
  exact br_t rfl (br_c (fun _ => rt_A427 hp ht) (fun _ => br_c (fun _ => rt_A427 hp ht) (fun _ => br_c (fun _ => rt_A427 hp ht) (fun _ => rt_A428 hp ht))))
theorem rt_A351 (hp : post 1 ()) (ht : x0 < 0 ∨ 3 ≤ x0) : wL_lawOf_351 post mc ms x0 x1 x4 x5 0 x8 x10 x11 z0 kc ks fo fm a1 a2 a3 a4 a5 a6 a7 a8 := by
  unfold wL_lawOf_351
  exact rt_rfcT ht (br_t rfl (rt_A403 hp ht))
theorem rt_A350 (hp : post 1 ()) (ht : x0 < 0 ∨ 3 ≤ x0) : wL_lawOf_350 post mc ms x0 x1 x4 x5 0 x8 x10 x11 kc ks fo fm a1 a2 a3 a4 a5 a6 a7 a8 := by
  unfold wL_lawOf_350
  exact rt_A351 hp ht
theorem rt_A306 (hp : post 1 ()) (ht : x0 < 0 ∨ 3 ≤ x0) : wL_lawOf_306 post mc ms x0 x1 x4 x5 0 x8 x10 x11 x12 x13 (-1) kc ks fo fm a1 a2 a3 a4 a5 a6 a7 a8 := by
  unfold wL_lawOf_306
  exact rt_refT ht (br_t rfl (br_c (fun _ => rt_A350 hp ht) (fun _ => br_c (fun _ => rt_A350 hp ht) (fun _ => br_c (fun _ => rt_A350 hp ht) (fun _ => br_c (fun _ => rt_A350 hp ht) (fun _ => rt_A351 hp ht))))))
theorem rt_A254 (hp : post 1 ()) (ht : x0 < 0 ∨ 3 ≤ x0) : wL_lawOf_254 post mc ms x0 x1 x4 x5 0 x8 x10 x11 x12 z0 kc ks fo fm a1 a2 a3 a4 a5 a6 a7 a8 := by
  unfold wL_lawOf_254
  exact br_t rfl (rt_A306 hp ht)
theorem rt_A249 (hp : post 1 ()) (ht : x0 < 0 ∨ 3 ≤ x0) : wL_lawOf_249 post mc ms x0 x1 x4 x5 0 x8 x10 x11 x12 kc ks fo fm a1 a2 a3 a4 a5 a6 a7 a8 := by
  unfold wL_lawOf_249
  exact rt_A254 hp ht
theorem rt_A253 (hp : post 1 ()) (ht : x0 < 0 ∨ 3 ≤ x0) : wL_lawOf_253 post mc ms x0 x1 x4 x5 0 x8 x10 x11 x12 kc ks fo fm a1 a2 a3 a4 a5 a6 a7 a8 := by
  unfold wL_lawOf_253
  exact rt_A254 hp ht
theorem rt_A224 (hp : post 1 ()) (ht : x0 < 0 ∨ 3 ≤ x0) : wL_lawOf_224 post mc ms x0 x1 x2 x4 x5 0 x8 x10 x11 z0 kc ks fo fm a1 a2 a3 a4 a5 a6 a7 a8 := by
  unfold wL_lawOf_224
  exact br_c (fun _ => rt_A249 hp ht) (fun _ => br_c (fun _ => rt_A249 hp ht) (fun _ => br_c (fun _ => br_c (fun _ => rt_A249 hp ht) (fun _ => rt_A253 hp ht)) (fun _ => rt_A253 hp ht)))
theorem rt_A223 (hp : post 1 ()) (ht : x0 < 0 ∨ 3 ≤ x0) : wL_lawOf_223 post mc ms x0 x1 x2 x4 x5 0 x8 x10 x11 kc ks fo fm a1 a2 a3 a4 a5 a6 a7 a8 := by
  unfold wL_lawOf_223
  exact rt_A224 hp ht
theorem rt_A201 (hp : post 1 ()) (ht : x0 < 0 ∨ 3 ≤ x0) : wL_lawOf_201 post mc ms x0 x1 x2 x4 x5 0 x8 x10 x11 z0 z0 kc ks fo fm a1 a2 a3 a4 a5 a6 a7 a8 := by
  unfold wL_lawOf_201
  exact br_t rfl (br_c (fun _ => rt_A223 hp ht) (fun _ => br_c (fun _ => rt_A223 hp ht) (fun _ => rt_A224 hp ht)))
theorem rt_A171 (hp : post 1 ()) (ht : x0 < 0 ∨ 3 ≤ x0) : wL_lawOf_171 post mc ms x0 x1 x2 x4 x5 0 x8 x10 z0 kc ks fo fm a1 a2 a3 a4 a5 a6 a7 a8 := by
  unfold wL_lawOf_171
  exact rt_insT ht (br_t rfl (rt_A201 hp ht))
theorem rt_A170 (hp : post 1 ()) (ht : x0 < 0 ∨ 3 ≤ x0) : wL_lawOf_170 post mc ms x0 x1 x2 x4 x5 0 x8 x10 kc ks fo fm a1 a2 a3 a4 a5 a6 a7 a8 := by
  unfold wL_lawOf_170
  exact rt_A171 hp ht
theorem rt_A131 (hp : post 1 ()) (ht : x0 < 0 ∨ 3 ≤ x0) : wL_lawOf_131 post mc ms x0 x1 x2 x3 x4 x5 0 x8 (-1) z0 kc ks fo fm a1 a2 a3 a4 a5 a6 a7 a8 := by
  unfold wL_lawOf_131
  exact rt_linkT ht (br_t rfl (br_t rfl (rt_A170 hp ht)))
theorem rt_A39 (hp : post 1 ()) (ht : x0 < 0 ∨ 3 ≤ x0) : wL_lawOf_39 post mc ms x0 x1 x2 x3 x4 x5 0 z0 kc ks fo fm a1 a2 a3 a4 a5 a6 a7 a8 := by
  unfold wL_lawOf_39
  refine br_t rfl ?_
  unfold wL_lawOf_60 wL_lawOf_90
  refine br_t rfl (br_t rfl ?_)
  unfold wL_lawOf_130
  exact rt_A131 hp ht
theorem rt_A22 (hp : post 1 ()) (ht : x0 < 0 ∨ 3 ≤ x0) : wL_lawOf_22 post mc ms x0 x1 x2 x3 x4 x5 kc ks fo fm a1 a2 a3 a4 a5 a6 a7 a8 := by
  unfold wL_lawOf_22 wL_lawOf_23 wL_lawOf_34
  exact br_c (fun _ => rt_A39 hp ht) (fun _ => br_c (fun _ => rt_A39 hp ht) (fun _ => rt_A39 hp ht))
/-- the key is none -/
theorem rt_C467 (hp : post 1 ()) {T : Nat} (hT : T < 3) (hk : x4 < 0 ∨ 20 ≤ x4) : wL_lawOf_467 post mc ms (nI T) x4 1 0 (-2) (-2) kc ks fo fm a1 a2 a3 a4 a5 a6 a7 a8 := by
  unfold wL_lawOf_467
  refine br_t rfl (rt_remK hT hk ?_)
  rintro ⟨_, _, _, _, _, _, _, _, _, _⟩
  exact br_f (by decide) (br_t rfl (br_t rfl hp))
theorem rt_C428 (hp : post 1 ()) {T : Nat} (hT : T < 3) (hk : x4 < 0 ∨ 20 ≤ x4) : wL_lawOf_428 post mc ms (nI T) x4 1 0 z0 kc ks fo fm a1 a2 a3 a4 a5 a6 a7 a8 := by
  unfold wL_lawOf_428
  exact rt_rrsK hT hk (br_f (by decide) (br_t rfl (rt_C467 hp hT hk)))
theorem rt_C427 (hp : post 1 ()) {T : Nat} (hT : T < 3) (hk : x4 < 0 ∨ 20 ≤ x4) : wL_lawOf_427 post mc ms (nI T) x4 1 0 kc ks fo fm a1 a2 a3 a4 a5 a6 a7 a8 := by
  unfold wL_lawOf_427
  exact rt_C428 hp hT hk
theorem rt_C403 (hp : post 1 ()) {T : Nat} (hT : T < 3) (hk : x4 < 0 ∨ 20 ≤ x4) : wL_lawOf_403 post mc ms (nI T) x4 x5 1 x10 0 x15 (-3) (-3) kc ks fo fm a1 a2 a3 a4 a5 a6 a7 a8 := by
  unfold wL_lawOf_403
  exact br_t rfl (br_c (fun _ => rt_C427 hp hT hk) (fun _ => br_c (fun _ => rt_C427 hp hT hk) (fun _ => br_c (fun _ => rt_C427 hp hT hk) (fun _ => rt_C428 hp hT hk))))
theorem rt_C351 (hp : post 1 ()) {T : Nat} (hT : T < 3) (hk : x4 < 0 ∨ 20 ≤ x4) : wL_lawOf_351 post mc ms (nI T) x1 x4 x5 1 x8 x10 0 z0 kc ks fo fm a1 a2 a3 a4 a5 a6 a7 a8 := by
  unfold wL_lawOf_351
  exact rt_rfcK hT hk (br_f (by decide) (br_t rfl (rt_C403 hp hT hk)))
theorem rt_C350 (hp : post 1 ()) {T : Nat} (hT : T < 3) (hk : x4 < 0 ∨ 20 ≤ x4) : wL_lawOf_350 post mc ms (nI T) x1 x4 x5 1 x8 x10 0 kc ks fo fm a1 a2 a3 a4 a5 a6 a7 a8 := by
  unfold wL_lawOf_350
  exact rt_C351 hp hT hk
theorem rt_C306 (hp : post 1 ()) {T : Nat} (hT : T < 3) (hk : x4 < 0 ∨ 20 ≤ x4) : wL_lawOf_306 post mc ms (nI T) x1 x4 x5 1 x8 x10 0 x12 x13 (-2) kc ks fo fm a1 a2 a3 a4 a5 a6 a7 a8 := by
  unfold wL_lawOf_306
  exact rt_refK hT hk (br_t rfl (br_c (fun _ => rt_C350 hp hT hk) (fun _ => br_c (fun _ => rt_C350 hp hT hk) (fun _ => br_c (fun _ => rt_C350 hp hT hk) (fun _ => br_c (fun _ => rt_C350 hp hT hk) (fun _ => rt_C351 hp hT hk))))))
theorem rt_C254 (hp : post 1 ()) {T : Nat} (hT : T < 3) (hk : x4 < 0 ∨ 20 ≤ x4) : wL_lawOf_254 post mc ms (nI T) x1 x4 x5 1 x8 x10 0 x12 z0 kc ks fo fm a1 a2 a3 a4 a5 a6 a7 a8 := by
  unfold wL_lawOf_254
  exact br_f (by decide) (br_t rfl (rt_C306 hp hT hk))
theorem rt_C249 (hp : post 1 ()) {T : Nat} (hT : T < 3) (hk : x4 < 0 ∨ 20 ≤ x4) : wL_lawOf_249 post mc ms (nI T) x1 x4 x5 1 x8 x10 0 x12 kc ks fo fm a1 a2 a3 a4 a5 a6 a7 a8 := by
  unfold wL_lawOf_249
  exact rt_C254 hp hT hk
theorem rt_C253 (hp : post 1 ()) {T : Nat} (hT : T < 3) (hk : x4 < 0 ∨ 20 ≤ x4) : wL_lawOf_253 post mc ms (nI T) x1 x4 x5 1 x8 x10 0 x12 kc ks fo fm a1 a2 a3 a4 a5 a6 a7 a8 := by
  unfold wL_lawOf_253
  exact rt_C254 hp hT hk
theorem rt_C224 (hp : post 1 ()) {T : Nat} (hT : T < 3) (hk : x4 < 0 ∨ 20 ≤ x4) : wL_lawOf_224 post mc ms (nI T) x1 x2 x4 x5 1 x8 x10 0 z0 kc ks fo fm a1 a2 a3 a4 a5 a6 a7 a8 := by
  unfold wL_lawOf_224
  exact br_c (fun _ => rt_C249 hp hT hk) (fun _ => br_c (fun _ => rt_C249 hp hT hk) (fun _ => br_c (fun _ => br_c (fun _ => rt_C249 hp hT hk) (fun _ => rt_C253 hp hT hk)) (fun _ => rt_C253 hp hT hk)))
theorem rt_C223 (hp : post 1 ()) {T : Nat} (hT : T < 3) (hk : x4 < 0 ∨ 20 ≤ x4) : wL_lawOf_223 post mc ms (nI T) x1 x2 x4 x5 1 x8 x10 0 kc ks fo fm a1 a2 a3 a4 a5 a6 a7 a8 := by
  unfold wL_lawOf_223
  exact rt_C224 hp hT hk
theorem rt_C201 (hp : post 1 ()) {T : Nat} (hT : T < 3) (hk : x4 < 0 ∨ 20 ≤ x4) : wL_lawOf_201 post mc ms (nI T) x1 x2 x4 x5 1 x8 x10 0 z0 z0 kc ks fo fm a1 a2 a3 a4 a5 a6 a7 a8 := by
  unfold wL_lawOf_201
  exact br_t rfl (br_c (fun _ => rt_C223 hp hT hk) (fun _ => br_c (fun _ => rt_C223 hp hT hk) (fun _ => rt_C224 hp hT hk)))
theorem rt_C170 (hp : post 1 ()) {T : Nat} (hT : T < 3) (hk : x4 < 0 ∨ 20 ≤ x4) : wL_lawOf_170 post mc ms (nI T) x1 x2 x4 x5 1 x8 x10 kc ks fo fm a1 a2 a3 a4 a5 a6 a7 a8 := by
  unfold wL_lawOf_170 wL_lawOf_171
  exact rt_insK hT hk (br_f (by decide) (br_t rfl (rt_C201 hp hT hk)))
end
end
section
theorem rt_rng {A B : Prop} {x M : Int32} (m : Nat) (hm : m + 1 < 2 ^ 31) (hM : M = nI m) (bad : x < 0 ∨ nI (m + 1) ≤ x → A) (good : ∀ j, j < m + 1 → x = nI j → B) : (x < 0 → A) ∧ (¬ x < 0 → ((M < x → A) ∧ (¬ M < x → B))) := by
  subst hM
  rcases pk_ix x hm with h | h | ⟨j, hj, e⟩
  · exact br_t h (bad (Or.inl h))
  · refine br_c (fun _ => bad (Or.inr h)) (fun _ => br_t ?_ (bad (Or.inr h)))
    have h1 := Int32.le_iff_toInt_le.mp h
    rw [Int32.lt_iff_toInt_lt, nI_toInt (by omega)]
    rw [nI_toInt hm] at h1
    omega
  · refine br_f ?_ (br_f ?_ (good j hj e))
    · rw [e]
      exact nI_pos (by omega)
    · rw [e]
      exact nI_nlt (by omega) (by omega)
/-- the link, behind the call -/
def rt_L (T : Nat) (x1 x2 x10 : Int32) (a1 a2 : Nat → Int32) : Prop := (x10 = 0 ∧ ∀ j, j < 6 → a2 j < 0) ∨ (x10 = 1 ∧ ∃ C tt, C < 2 ∧ tt < 3 ∧ x1 = nI C ∧ x2 = nI tt ∧ (∀ j, j < 6 → j ≠ 2 * T + C → a2 j < 0) ∧ ¬ a2 (2 * T + C) < 0 ∧ a1 (2 * T + C) = nI tt)
theorem rt_L_at {T : Nat} {x1 x2 x10 : Int32} {a1 a2 : Nat → Int32} (hL : rt_L T x1 x2 x10 a1 a2) {j : Nat} (hj : j < 6) (g : ¬ a2 j < 0) : x10 = 1 ∧ ∃ C tt, C < 2 ∧ tt < 3 ∧ x1 = nI C ∧ x2 = nI tt ∧ j = 2 * T + C ∧ a1 j = nI tt := by
  rcases hL with ⟨_, h⟩ | ⟨e, C, tt, hC, ht, e1, e2, hn, _, ha⟩
  · exact absurd (h j hj) g
  · have ej : j = 2 * T + C := by
      by_cases z : j = 2 * T + C
      · exact z
      · exact absurd (hn j hj z) g
    exact ⟨e, C, tt, hC, ht, e1, e2, ej, by rw [ej]; exact ha⟩
/-- the column -/
def rt_Co (x1 x8 : Int32) : Prop := (x8 = 0 ∧ ¬ x1 = 0 ∧ ¬ x1 = 1) ∨ (x8 = 1 ∧ ∃ C, C < 2 ∧ x1 = nI C)
/-- the state behind refer -/
def rt_S (T K c R : Nat) (r h : Int32) (a1 a2 a3 a4 a6 : Nat → Int32) : Prop := T < 3 ∧ K < 20 ∧ R < 20 ∧ c < 6 ∧ c / 2 = T ∧ a3 T = rt_b K ∧ rt_A a4 120 (20 * c + K) (-1) r ∧ rt_A a6 120 (20 * c + R) 0 h ∧ ((r = -1 ∧ h = 0) ∨ (r = nI R ∧ h = rt_b K)) ∧ (∀ j, j < 6 → ¬ a2 j < 0 → (h = 0 ∨ j = c) ∧ ∃ tt, tt < 3 ∧ a1 j = nI tt)
section
variable {post : Int32 → St0 → Prop} {mc ms kc ks : Nat} {x0 x1 x2 x3 x4 x5 x8 x9 x10 x11 x12 x13 x15 z z0 : Int32} {fm : Int32} {a1 a2 a3 a4 a5 a6 a7 a8 : Nat → Int32} {T K c R C tt : Nat} {r h : Int32}
theorem rt_S0 (hT : T < 3) (hK : K < 20) (h3 : a3 T = rt_b K) (h4 : rt_U a4 120 (-1)) (h6 : rt_U a6 120 0) (hL : rt_L T x1 x2 x10 a1 a2) : rt_S T K (2 * T) 0 (-1) 0 a1 a2 a3 a4 a6 := by
  refine ⟨hT, hK, by omega, by omega, by omega, h3, rt_U_A h4 _, rt_U_A h6 _, Or.inl ⟨rfl, rfl⟩, fun j hj g => ⟨Or.inl rfl, ?_⟩⟩
  obtain ⟨_, C, tt, hC, ht, _, _, _, e⟩ := rt_L_at hL hj g
  exact ⟨tt, ht, e⟩
theorem rt_B467 (hp : post 1 ()) (hS : rt_S T K c R r h a1 a2 a3 a4 a6) : wL_lawOf_467 post mc ms (nI T) (nI K) 1 1 z z kc ks 0 fm a1 a2 a3 a4 a5 a6 a7 a8 := by
  obtain ⟨hT, hK, hR, hc, hcT, h3, h4, h6, hr, hl⟩ := hS
  unfold wL_lawOf_467
  refine br_t rfl (rt_remY hT hK hR hc hcT h3 h4 h6 hr hl ?_)
  rintro ⟨_, _, _, _, _, _, _, _, _, _⟩
  exact br_f (by decide) (br_f (by decide) (br_t rfl hp))
theorem rt_B427 (hp : post 1 ()) (hS : rt_S T K c R r h a1 a2 a3 a4 a6) (hz : h = 0 ∨ ∀ j, j < 6 → a2 j < 0) : wL_lawOf_427 post mc ms (nI T) (nI K) 1 1 kc ks 0 fm a1 a2 a3 a4 a5 a6 a7 a8 := by
  have hS' := hS
  obtain ⟨hT, hK, hR, hc, hcT, h3, h4, h6, hr, hl⟩ := hS'
  unfold wL_lawOf_427 wL_lawOf_428
  refine rt_rrs0 hT hK h3 (fun j hj g => ?_) (br_f (by decide) (br_f (by decide) (br_t rfl (rt_B467 hp hS))))
  rcases hz with hz | hz
  · exact Or.inr (rt_A_U h6 hz _ (by omega))
  · exact absurd (hz j hj) g
theorem rt_B428 (hp : post 1 ()) (hS : rt_S T K c K r (rt_b K) a1 a2 a3 a4 a6) (hne : ∀ j, j < 6 → j ≠ c → a2 j < 0) (hcc : ¬ a2 c < 0) (h1 : a1 c = nI T) : wL_lawOf_428 post mc ms (nI T) (nI K) 1 1 1 kc ks 0 fm a1 a2 a3 a4 a5 a6 a7 a8 := by
  have hS' := hS
  obtain ⟨hT, hK, hR, hc, hcT, h3, h4, h6, hr, hl⟩ := hS'
  unfold wL_lawOf_428
  exact rt_rrs1 hT hK hc h3 hne hcc h1 (rt_A_at h6 (by omega)) (br_f (by decide) (br_f (by decide) (br_f (by decide) (rt_B467 hp hS))))
theorem rt_B403 (hp : post 1 ()) (hS : rt_S T K c R r 0 a1 a2 a3 a4 a6) : wL_lawOf_403 post mc ms (nI T) (nI K) x5 1 x10 1 0 z z kc ks 0 fm a1 a2 a3 a4 a5 a6 a7 a8 := by
  unfold wL_lawOf_403
  exact br_t rfl (br_t rfl (rt_B427 hp hS (Or.inl rfl)))
/-- nothing is set -/
theorem rt_F01 (hp : post 1 ()) (hS : rt_S T K c R (-1) 0 a1 a2 a3 a4 a6) (hC : rt_Co x1 x8) : wL_lawOf_350 post mc ms (nI T) x1 (nI K) x5 1 x8 x10 1 kc ks 0 fm a1 a2 a3 a4 a5 a6 a7 a8 := by
  have hS' := hS
  obtain ⟨hT, hK, hR, hc, hcT, h3, h4, h6, hr, hl⟩ := hS'
  unfold wL_lawOf_350 wL_lawOf_351
  rcases hC with ⟨rfl, g0, g1⟩ | ⟨rfl, C, hC, rfl⟩
  · exact rt_rfcC hT hK h3 g0 g1 (br_f (by decide) (br_f (by decide) (br_t rfl (rt_B403 hp hS))))
  · refine rt_rfcY hT hK hC h3 ?_
    rw [rt_A_U h4 rfl (20 * (2 * T + C) + K) (by omega)]
    exact br_f (by decide) (br_f (by decide) (br_f (by decide) (br_t rfl (rt_B403 hp hS))))
/-- something is set -/
theorem rt_F2 (hp : post 1 ()) (hC : C < 2) (hS : rt_S T K (2 * T + C) R r h a1 a2 a3 a4 a6) (hL : rt_L T (nI C) x2 x10 a1 a2) (hs : x10 = 1 → h = 0 ∨ (x2 = nI T ∧ R = K)) : wL_lawOf_351 post mc ms (nI T) (nI C) (nI K) r 1 1 x10 1 1 kc ks 0 fm a1 a2 a3 a4 a5 a6 a7 a8 := by
  have hS' := hS
  obtain ⟨hT, hK, hR, hc, hcT, h3, h4, h6, hr, hl⟩ := hS'
  unfold wL_lawOf_351
  refine rt_rfcY hT hK hC h3 ?_
  rw [rt_A_at h4 (by omega)]
  refine br_f (by decide) (br_f (by decide) (br_f (by decide) (br_f (by decide) ?_)))
  unfold wL_lawOf_403
  refine br_t rfl (br_f (by decide) ?_)
  rcases hL with ⟨rfl, hn⟩ | ⟨rfl, C', tt, hC', ht, e1, e2, hne, hcc, ha⟩
  · exact br_t rfl (rt_B427 hp hS (Or.inr hn))
  · have eC : C = C' := (nI_eq (by omega) (by omega)).mp e1
    subst eC
    refine br_f (by decide) (br_c (fun g => ?_) (fun g => ?_))
    · rcases hr with ⟨_, e⟩ | ⟨e, _⟩
      · exact rt_B427 hp hS (Or.inl e)
      · rw [e] at g
        exact absurd g (nI_pos (by omega))
    · rcases hr with ⟨e, _⟩ | ⟨_, e⟩
      · rw [e] at g
        exact absurd (by decide) g
      · rcases hs rfl with y | ⟨y, eR⟩
        · rw [e] at y
          exact absurd y (rt_bne K hK)
        · subst e
          subst eR
          exact rt_B428 hp hS hne hcc (by rw [ha, ← e2, y])
/-- refer that sets nothing: the column -/
theorem rt_G0 (hp : post 1 ()) (hT : T < 3) (hK : K < 20) (h3 : a3 T = rt_b K) (h4 : rt_U a4 120 (-1)) (h6 : rt_U a6 120 0) (hL : rt_L T x1 x2 x10 a1 a2) (g0 : ¬ x1 = 0) (g1 : ¬ x1 = 1) : wL_lawOf_254 post mc ms (nI T) x1 (nI K) x5 1 0 x10 1 x12 z0 kc ks 0 fm a1 a2 a3 a4 a5 a6 a7 a8 := by
  unfold wL_lawOf_254
  refine br_f (by decide) (br_f (by decide) (br_t rfl ?_))
  unfold wL_lawOf_306
  exact rt_refC hT hK h3 g0 g1 (br_t rfl (br_f (by decide) (br_t rfl (rt_F01 hp (rt_S0 hT hK h3 h4 h6 hL) (Or.inl ⟨rfl, g0, g1⟩)))))
/-- the reference is none -/
theorem rt_G1 (hp : post 1 ()) (hT : T < 3) (hK : K < 20) (hC : C < 2) (h3 : a3 T = rt_b K) (h4 : rt_U a4 120 (-1)) (h6 : rt_U a6 120 0) (hL : rt_L T (nI C) x2 x10 a1 a2) (hr : x5 < (-1) ∨ ¬ x5 < 20) : wL_lawOf_254 post mc ms (nI T) (nI C) (nI K) x5 1 1 x10 1 0 z0 kc ks 0 fm a1 a2 a3 a4 a5 a6 a7 a8 := by
  unfold wL_lawOf_254
  refine br_f (by decide) (br_f (by decide) (br_f (by decide) (br_t rfl ?_)))
  unfold wL_lawOf_306
  exact rt_refR hT hK hC h3 hr (br_t rfl (br_f (by decide) (br_f (by decide) (br_t rfl (rt_F01 hp (rt_S0 hT hK h3 h4 h6 hL) (Or.inr ⟨rfl, C, hC, rfl⟩))))))
/-- sound -/
theorem rt_G2 (hp : post 1 ()) (hT : T < 3) (hK : K < 20) (hC : C < 2) (hR : R < 20) (h3 : rt_A a3 3 T 0 (rt_b K)) (h4 : rt_U a4 120 (-1)) (h6 : rt_U a6 120 0) (hL : rt_L T (nI C) x2 x10 a1 a2) (hr : (r = -1 ∧ h = 0) ∨ (r = nI R ∧ h = rt_b K)) (hs : x10 = 1 → h = 0 ∨ (x2 = nI T ∧ R = K)) : wL_lawOf_249 post mc ms (nI T) (nI C) (nI K) r 1 1 x10 1 1 kc ks 0 fm a1 a2 a3 a4 a5 a6 a7 a8 := by
  have hq : ∀ j, j < 6 → ¬ a2 j < 0 → j = 2 * T + C ∧ ∃ tt, tt < 3 ∧ a1 j = nI tt ∧ (h = 0 ∨ (tt = T ∧ R = K)) := by
    intro j hj g
    obtain ⟨e, C', tt, hC', ht, e1, e2, ej, ea⟩ := rt_L_at hL hj g
    have eC : C = C' := (nI_eq (by omega) (by omega)).mp e1
    subst eC
    refine ⟨ej, tt, ht, ea, ?_⟩
    rcases hs e with y | ⟨y, eR⟩
    · exact Or.inl y
    · rw [e2] at y
      exact Or.inr ⟨(nI_eq (by omega) (by omega)).mp y, eR⟩
  unfold wL_lawOf_249 wL_lawOf_254
  refine br_f (by decide) (br_f (by decide) (br_f (by decide) (br_f (by decide) (br_f (by decide) ?_))))
  unfold wL_lawOf_306
  refine rt_refY hT hK hC hR h3 h4 h6 hr hq (fun b4 b6 b7 u4 u6 => br_t rfl (br_f (by decide) (br_f (by decide) (br_f (by decide) (br_f (by decide) ?_)))))
  refine rt_F2 hp hC ⟨hT, hK, hR, by omega, by omega, rt_A_at h3 hT, u4, u6, hr, fun j hj g => ?_⟩ hL hs
  obtain ⟨ej, tt, ht, ea, _⟩ := hq j hj g
  exact ⟨Or.inr ej, tt, ht, ea⟩
/-- not sound -/
theorem rt_G3 (hp : post 1 ()) (hT : T < 3) (hK : K < 20) (hC : C < 2) (hR : R < 20) (h3 : rt_A a3 3 T 0 (rt_b K)) (h4 : rt_U a4 120 (-1)) (h6 : rt_U a6 120 0) (hL : rt_L T (nI C) x2 1 a1 a2) (hn : ¬ (x2 = nI T ∧ R = K)) : wL_lawOf_253 post mc ms (nI T) (nI C) (nI K) (nI R) 1 1 1 1 1 kc ks 0 fm a1 a2 a3 a4 a5 a6 a7 a8 := by
  have hL' := hL
  rcases hL with ⟨e, _⟩ | ⟨_, C', tt, hC', ht, e1, e2, hne, hcc, ha⟩
  · exact absurd e (by decide)
  · have eC : C = C' := (nI_eq (by omega) (by omega)).mp e1
    subst eC
    unfold wL_lawOf_253 wL_lawOf_254
    refine br_f (by decide) (br_f (by decide) (br_f (by decide) (br_f (by decide) (br_t rfl ?_))))
    unfold wL_lawOf_306
    refine rt_refN hT hK hC hR ht h3 h4 h6 (fun j hj => hne j (by omega) (by omega)) hcc ha (fun y => hn ⟨by rw [e2, y.1], y.2⟩) (fun b3 b4 b5 b6 b7 u3 u4 u6 => br_t rfl (br_f (by decide) (br_f (by decide) (br_f (by decide) (br_t rfl ?_)))))
    exact rt_F01 hp (rt_S0 hT hK (rt_A_at u3 hT) u4 u6 hL') (Or.inr ⟨rfl, C, hC, rfl⟩)
/-- the row is there -/
theorem rt_B201 (hp : post 1 ()) (hT : T < 3) (hK : K < 20) (h3 : rt_A a3 3 T 0 (rt_b K)) (h4 : rt_U a4 120 (-1)) (h6 : rt_U a6 120 0) (hC : rt_Co x1 x8) (hL : rt_L T x1 x2 x10 a1 a2) : wL_lawOf_201 post mc ms (nI T) x1 x2 (nI K) x5 1 x8 x10 1 1 1 kc ks 0 fm a1 a2 a3 a4 a5 a6 a7 a8 := by
  unfold wL_lawOf_201
  refine br_t rfl ?_
  rcases hC with ⟨rfl, g0, g1⟩ | ⟨rfl, C, hC, rfl⟩
  · have G : ∀ x12 z0 : Int32, wL_lawOf_254 post mc ms (nI T) x1 (nI K) x5 1 0 x10 1 x12 z0 kc ks 0 fm a1 a2 a3 a4 a5 a6 a7 a8 := fun _ _ => rt_G0 hp hT hK (rt_A_at h3 hT) h4 h6 hL g0 g1
    have G' : ∀ x12 : Int32, wL_lawOf_224 post mc ms (nI T) x1 x2 (nI K) x5 1 0 x10 1 x12 kc ks 0 fm a1 a2 a3 a4 a5 a6 a7 a8 := by
      intro x12
      unfold wL_lawOf_224 wL_lawOf_249 wL_lawOf_253
      exact br_c (fun _ => G _ _) (fun _ => br_c (fun _ => G _ _) (fun _ => br_c (fun _ => br_c (fun _ => G _ _) (fun _ => G _ _)) (fun _ => G _ _)))
    unfold wL_lawOf_223
    exact br_c (fun _ => G' _) (fun _ => br_c (fun _ => G' _) (fun _ => G' _))
  · have G : (x5 < (-1) ∨ ¬ x5 < 20) → wL_lawOf_223 post mc ms (nI T) (nI C) x2 (nI K) x5 1 1 x10 1 kc ks 0 fm a1 a2 a3 a4 a5 a6 a7 a8 := by
      intro hr
      have G : ∀ z0 : Int32, wL_lawOf_254 post mc ms (nI T) (nI C) (nI K) x5 1 1 x10 1 0 z0 kc ks 0 fm a1 a2 a3 a4 a5 a6 a7 a8 := fun _ => rt_G1 hp hT hK hC (rt_A_at h3 hT) h4 h6 hL hr
      unfold wL_lawOf_223 wL_lawOf_224 wL_lawOf_249 wL_lawOf_253
      exact br_c (fun _ => G _) (fun _ => br_c (fun _ => G _) (fun _ => br_c (fun _ => br_c (fun _ => G _) (fun _ => G _)) (fun _ => G _)))
    refine br_c (fun g => G (Or.inl g)) (fun g => br_c (fun g2 => G (Or.inr ?_)) (fun g2 => ?_))
    · intro g3
      have h1 := Int32.lt_iff_toInt_lt.mp g2
      have h2 := Int32.lt_iff_toInt_lt.mp g3
      have e2 : (19 : Int32).toInt = 19 := by decide
      have e3 : (20 : Int32).toInt = 20 := by decide
      omega
    · unfold wL_lawOf_224
      by_cases hm : x5 = -1
      · have Q : wL_lawOf_249 post mc ms (nI T) (nI C) (nI K) x5 1 1 x10 1 1 kc ks 0 fm a1 a2 a3 a4 a5 a6 a7 a8 := rt_G2 (R := 0) (h := 0) hp hT hK hC (by omega) h3 h4 h6 hL (Or.inl ⟨hm, rfl⟩) (fun _ => Or.inl rfl)
        exact br_c (fun _ => Q) (fun _ => br_t hm Q)
      · have g5 : ¬ x5 < 0 := fun y => hm (rt_m1 g y)
        obtain ⟨R, hR, rfl⟩ := nI_of2 (M := 19) (n := 19) (by decide) g5 (Int32.not_lt.mp g2)
        have hR' : R < 20 := by omega
        refine br_c (fun y => ?_) (fun y => br_f hm (br_c (fun y1 => br_c (fun y2 => ?_) (fun y2 => ?_)) (fun y1 => ?_)))
        · exact rt_G2 (R := R) (h := rt_b K) hp hT hK hC hR' h3 h4 h6 hL (Or.inr ⟨rfl, rfl⟩) (fun e => absurd (y ▸ e) (by decide))
        · exact rt_G2 (R := R) (h := rt_b K) hp hT hK hC hR' h3 h4 h6 hL (Or.inr ⟨rfl, rfl⟩) (fun _ => Or.inr ⟨y1, (nI_eq (by omega) (by omega)).mp y2⟩)
        · have e10 : x10 = 1 := by
            rcases hL with ⟨e, _⟩ | ⟨e, _⟩
            · exact absurd e y
            · exact e
          subst e10
          exact rt_G3 hp hT hK hC hR' h3 h4 h6 hL (fun v => y2 (by rw [v.2]))
        · have e10 : x10 = 1 := by
            rcases hL with ⟨e, _⟩ | ⟨e, _⟩
            · exact absurd e y
            · exact e
          subst e10
          exact rt_G3 hp hT hK hC hR' h3 h4 h6 hL (fun v => y1 v.1)
/-- link -/
theorem rt_B131 (hp : post 1 ()) (hT : T < 3) (h3 : rt_U a3 3 0) (h4 : rt_U a4 120 (-1)) (h6 : rt_U a6 120 0) (hC : rt_Co x1 x8)
    (hl : ∀ P : Int32 → St2 → Prop, (∀ b1 b2, rt_L T x1 x2 z0 b1 b2 → P x9 (0, fm, b1, b2, a3, a4, a5, a6, a7, a8)) → wpX_link P (0, fm, a1, a2, a3, a4, a5, a6, a7, a8) (nI T) x1 x2 x3) : wL_lawOf_131 post mc ms (nI T) x1 x2 x3 x4 x5 1 x8 x9 z0 kc ks 0 fm a1 a2 a3 a4 a5 a6 a7 a8 := by
  unfold wL_lawOf_131
  refine hl _ (fun b1 b2 hL => br_t rfl (br_f (by decide) (rt_rng 19 (by omega) rfl (fun hk => rt_C170 hp hT hk) (fun K hK e => ?_))))
  subst e
  unfold wL_lawOf_171
  exact rt_insY hT hK h3 (fun b3 u3 => br_f (by decide) (br_f (by decide) (rt_B201 hp hT hK u3 h4 h6 hC hL)))
theorem rt_B39 (hp : post 1 ()) (hT : T < 3) (h2 : rt_U a2 6 (-1)) (h3 : rt_U a3 3 0) (h4 : rt_U a4 120 (-1)) (h6 : rt_U a6 120 0) (hC : rt_Co x1 x8) : wL_lawOf_39 post mc ms (nI T) x1 x2 x3 x4 x5 1 x8 kc ks 0 fm a1 a2 a3 a4 a5 a6 a7 a8 := by
  have hn : rt_L T x1 x2 0 a1 a2 := Or.inl ⟨rfl, fun j hj => by rw [h2 j hj]; decide⟩
  have B60 : ¬ x3 = -1 → (x2 < 0 ∨ 3 ≤ x2) → wL_lawOf_60 post mc ms (nI T) x1 x2 x3 x4 x5 1 x8 kc ks 0 fm a1 a2 a3 a4 a5 a6 a7 a8 := by
    intro g hx
    have Q : wL_lawOf_130 post mc ms (nI T) x1 x2 x3 x4 x5 1 x8 (-1) kc ks 0 fm a1 a2 a3 a4 a5 a6 a7 a8 := by
      unfold wL_lawOf_130
      exact rt_B131 hp hT h3 h4 h6 hC (fun P k => rt_linkTo hT g hx (k _ _ hn))
    unfold wL_lawOf_60 wL_lawOf_90
    exact br_t rfl (br_f (by decide) (br_c (fun _ => Q) (fun _ => br_c (fun _ => Q) (fun _ => br_c (fun _ => Q) (fun _ => br_c (fun _ => Q) (fun y => br_t (rt_2lt (hx.resolve_left y)) Q))))))
  have B64 : (x3 = -1 ∨ ∃ tt, tt < 3 ∧ x2 = nI tt) → wL_lawOf_64 post mc ms (nI T) x1 x2 x3 x4 x5 1 x8 kc ks 0 fm a1 a2 a3 a4 a5 a6 a7 a8 := by
    intro ht
    unfold wL_lawOf_64
    rcases hC with ⟨e8, g0, g1⟩ | ⟨e8, C, hC, e1⟩
    · refine br_t e8 ?_
      unfold wL_lawOf_90
      refine br_f (by decide) ?_
      unfold wL_lawOf_130
      exact rt_B131 hp hT h3 h4 h6 (Or.inl ⟨e8, g0, g1⟩) (fun P k => rt_linkC hT ht g0 g1 (k _ _ hn))
    · subst e1
      have hCo : rt_Co (nI C) x8 := Or.inr ⟨e8, C, hC, rfl⟩
      have B84 : (x3 < (-1) ∨ ¬ x3 ≤ 3) → wL_lawOf_84 post mc ms (nI T) (nI C) x2 x3 x4 x5 1 x8 kc ks 0 fm a1 a2 a3 a4 a5 a6 a7 a8 := by
        intro g
        unfold wL_lawOf_84 wL_lawOf_90
        refine br_f (by decide) ?_
        unfold wL_lawOf_130
        exact rt_B131 hp hT h3 h4 h6 hCo (fun P k => rt_linkR hT hC ht g (k _ _ hn))
      refine br_f (by rw [e8]; decide) (br_c (fun g => B84 (Or.inl g)) (fun g => br_c (fun g2 => ?_) (fun g2 => B84 (Or.inr g2))))
      unfold wL_lawOf_90
      refine br_t rfl (br_f (by decide) (br_f (by rw [e8]; decide) (br_c (fun y => ?_) (fun y => ?_))))
      · have em : x3 = -1 := rt_m1 g y
        unfold wL_lawOf_130
        refine rt_B131 hp hT h3 h4 h6 hCo (fun P k => rt_linkY hT hC ht g g2 h6 h2 (k _ _ (Or.inl ⟨rfl, fun j hj => ?_⟩)))
        rw [em, rt_A_U (rt_A_upd h2 (2 * T + C) (-1)) rfl j hj]
        decide
      · have em : ¬ x3 = -1 := fun e => y (by rw [e]; decide)
        obtain ⟨tt, htt, e2⟩ := ht.resolve_left em
        refine br_f (fun v => Int32.not_le.mpr v g2) (br_f (by rw [e2]; exact nI_pos (by omega)) (br_f (by rw [e2]; exact nI_nlt (b := tt) (a := 2) (by omega) (by omega)) ?_))
        refine rt_B131 hp hT h3 h4 h6 hCo (fun P k => rt_linkY hT hC ht g g2 h6 h2 (k _ _ (Or.inr ⟨rfl, C, tt, hC, htt, rfl, e2, fun j hj ne => ?_, ?_, ?_⟩)))
        · rw [pk_un ne, h2 j hj]
          decide
        · rw [pk_us]
          exact y
        · rw [pk_us, if_neg em]
          exact e2
  unfold wL_lawOf_39
  refine br_f (by decide) (br_c (fun g => B64 (Or.inl g)) (fun g => ?_))
  rcases pk_ix x2 (n := 3) (by omega) with hx | hx | ⟨tt, htt, e⟩
  · exact br_t hx (B60 g (Or.inl hx))
  · exact br_f (rt_pos2 hx) (br_f (Int32.not_le.mpr (rt_2lt hx)) (B60 g (Or.inr hx)))
  · refine br_f (by rw [e]; exact nI_pos (by omega)) (br_t ?_ (B64 (Or.inr ⟨tt, htt, e⟩)))
    rw [e]
    exact nI_le (b := 2) (by omega) (by omega)
theorem rt_law (hp : post 1 ()) (hc : 9 ≤ mc) (hs : 1243 ≤ ms) : wpL_lawOf post mc ms () x0 x1 x2 x3 x4 x5 := by
  unfold wpL_lawOf
  refine ⟨by omega, by omega, 8, 1233, by omega, by omega, rt_init (by omega) (by omega) (fun b2 b4 u2 u4 => ?_)⟩
  refine rt_rng 2 (by omega) rfl (fun ht => rt_A22 hp ht) (fun T hT e => ?_)
  subst e
  have u0 : ∀ n, rt_U (fun _ => 0) n 0 := fun n j hj => rfl
  unfold wL_lawOf_23 wL_lawOf_34
  refine br_c (fun g => rt_B39 hp hT u2 (u0 3) u4 (u0 120) (Or.inr ⟨rfl, 0, by omega, g⟩)) (fun g => br_c (fun g1 => rt_B39 hp hT u2 (u0 3) u4 (u0 120) (Or.inr ⟨rfl, 1, by omega, g1⟩)) (fun g1 => rt_B39 hp hT u2 (u0 3) u4 (u0 120) (Or.inl ⟨rfl, g, g1⟩)))
end
theorem rt_cell {post : Int32 → Prop} {L : Nat} {xs : Nat → Int32} {x : Int32} (hL : L ≤ 6) (k : Nat) (hk : k < 6) (hx : x = nI k) (h : ∀ r, post r) : wpL_cellAt post L xs () x := by
  subst hx
  unfold wpL_cellAt
  exact pk_le L k (fun _ => h _) (fun z => ⟨pk_in k L z, h _⟩)
theorem i_vc (xs : Nat → Int32) (L : Nat) (hL : L ≤ 6) : wpL_law (fun r => r = 1) L xs := by
  unfold wpL_law
  exact rt_cell hL 0 (by omega) rfl (fun _ => rt_cell hL 1 (by omega) rfl (fun _ => rt_cell hL 2 (by omega) rfl (fun _ => rt_cell hL 3 (by omega) rfl (fun _ => rt_cell hL 4 (by omega) rfl (fun _ => rt_cell hL 5 (by omega) rfl (fun _ => ⟨642, 10256, by omega, by omega, rt_law rfl (by omega) (by omega)⟩))))))
end
