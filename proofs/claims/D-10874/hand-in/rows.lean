section
/-- the long[312] as slots of twelve coefficients -/
def qd_un (M : Nat → Nat → Int64) : Nat → Int64 := fun j => M (j / 12) (j % 12)
def qd_up (M : Nat → Nat → Int64) (s : Nat) (p : Nat → Int64) : Nat → Nat → Int64 := fun t => if t = s then p else M t
def qd_mo (c : Int64) (i : Nat) : Nat → Int64 := fun k => if k = i then c else 0
def qd_z : Nat → Int64 := fun _ => 0
/-- slot s while its places below k have their new coefficients q -/
def qd_pt (M : Nat → Nat → Int64) (s : Nat) (q : Nat → Int64) (k : Nat) : Nat → Int64 := qd_un (qd_up M s (fun j => if j < k then q j else M s j))
section
variable {M N : Nat → Nat → Int64} {s t f k i : Nat} {p q : Nat → Int64} {v c : Int64}
theorem qd_ext (h : ∀ t j, j < 12 → M t j = N t j) : qd_un M = qd_un N := funext fun j => h (j / 12) (j % 12) (Nat.mod_lt _ (by decide))
theorem qd_ups : qd_up M s p s = p := if_pos rfl
theorem qd_upn (h : t ≠ s) : qd_up M s p t = M t := if_neg h
theorem qd_same (h : M s = p) : qd_up M s p = M := by
  funext t
  by_cases e : t = s
  · rw [e, qd_ups, h]
  · rw [qd_upn e]
theorem qd_mos : qd_mo c i i = c := if_pos rfl
theorem qd_mon (h : k ≠ i) : qd_mo c i k = 0 := if_neg h
theorem qd_mo0 : qd_mo 0 i = qd_z := by
  funext k
  by_cases e : k = i
  · rw [e, qd_mos]; rfl
  · rw [qd_mon e]; rfl
theorem qd_rd (hk : k < 12) : qd_un M (12 * s + k) = M s k := by
  unfold qd_un
  rw [show (12 * s + k) / 12 = s by omega, show (12 * s + k) % 12 = k by omega]
theorem qd_wr (hk : k < 12) : vp_updL (qd_un M) (12 * s + k) v = qd_un (qd_up M s (vp_updL (M s) k v)) := by
  funext j
  show (if j = 12 * s + k then v else M (j / 12) (j % 12)) = qd_up M s (vp_updL (M s) k v) (j / 12) (j % 12)
  by_cases h : j / 12 = s
  · rw [h, qd_ups]
    by_cases h2 : j % 12 = k
    · rw [if_pos (by omega), h2, pk_uLs]
    · rw [if_neg (by omega), pk_uLn h2]
  · rw [qd_upn h, if_neg (by omega)]
theorem qd_wr0 (hk : k < 12) (hv : v = M s k) : vp_updL (qd_un M) (12 * s + k) v = qd_un M := by
  funext j
  by_cases h : j = 12 * s + k
  · rw [h, pk_uLs, qd_rd hk, hv]
  · rw [pk_uLn h]
theorem qd_pt0 : qd_pt M s q 0 = qd_un M := by
  apply qd_ext
  intro t j _
  by_cases h : t = s
  · rw [h, qd_ups]; exact if_neg (by omega)
  · rw [qd_upn h]
theorem qd_pt12 : qd_pt M s q 12 = qd_un (qd_up M s q) := by
  apply qd_ext
  intro t j hj
  by_cases h : t = s
  · rw [h, qd_ups, qd_ups]; exact if_pos hj
  · rw [qd_upn h, qd_upn h]
theorem qd_ptw (hk : k < 12) (hv : v = q k) : vp_updL (qd_pt M s q k) (12 * s + k) v = qd_pt M s q (k + 1) := by
  unfold qd_pt
  rw [qd_wr hk]
  apply qd_ext
  intro t j hj
  by_cases h : t = s
  · rw [h, qd_ups, qd_ups, qd_ups]
    by_cases e : j = k
    · rw [e, pk_uLs, hv]; exact (if_pos (by omega)).symm
    · rw [pk_uLn e]
      by_cases e2 : j < k
      · rw [if_pos e2, if_pos (by omega)]
      · rw [if_neg e2, if_neg (by omega)]
  · rw [qd_upn h, qd_upn h, qd_upn h]
theorem qd_ptr (hk : k < 12) : qd_pt M s q k (12 * s + k) = M s k := by
  unfold qd_pt
  rw [qd_rd hk, qd_ups]
  exact if_neg (by omega)
theorem qd_pto (hf : f ≠ s) (hi : i < 12) : qd_pt M s q k (12 * f + i) = M f i := by
  unfold qd_pt
  rw [qd_rd hi, qd_upn hf]
theorem qd_ptc (hk : k < 12) : qd_pt M s (M f) k (12 * f + k) = M f k := by
  by_cases h : f = s
  · rw [h]; exact qd_ptr hk
  · exact qd_pto h hk
theorem qd_ix (s i : Nat) : (12 * nI s) + nI i = nI (12 * s + i) := by
  rw [show (12 : Int32) = nI 12 from rfl, pk_mul, nI_add]
theorem qd_cl (hs : s < 26) (hi : i < 12) : ((12 * nI s) + nI i).toNatClampNeg = 12 * s + i := by
  rw [qd_ix]; exact nI_clamp (by omega)
theorem qd_in (hs : s < 26) (hi : i < 12) : vp_in ((12 * nI s) + nI i) 312 := by
  rw [qd_ix]; exact vp_in_nI (by omega) (by omega)
theorem qd_ixr (i k : Nat) : (120 + nI i) + nI k = nI (12 * 10 + (i + k)) := by
  rw [show (120 : Int32) = nI 120 from rfl, nI_add, nI_add, Nat.add_assoc]
theorem qd_clr (h : i + k < 12) : ((120 + nI i) + nI k).toNatClampNeg = 12 * 10 + (i + k) := by
  rw [qd_ixr]; exact nI_clamp (by omega)
theorem qd_inr (h : i + k < 12) : vp_in ((120 + nI i) + nI k) 312 := by
  rw [qd_ixr]; exact vp_in_nI (by omega) (by omega)
theorem qd_ixq (i : Nat) : 108 + nI i = nI (12 * 9 + i) := by
  rw [show (108 : Int32) = nI 108 from rfl, nI_add]
theorem qd_clq (h : i < 12) : (108 + nI i).toNatClampNeg = 12 * 9 + i := by
  rw [qd_ixq]; exact nI_clamp (by omega)
theorem qd_inq (h : i < 12) : vp_in (108 + nI i) 312 := by
  rw [qd_ixq]; exact vp_in_nI (by omega) (by omega)
theorem qd_m1 : nI 0 + (-1) = -1 := by decide
end
/-- bits, and the moduli that are met -/
def qd_b (x : Int64) : Prop := x = 0 ∨ x = 1
def qd_gd (m : Int64) : Prop := m = 2147483647 ∨ m = 3 ∨ m = 177147
section
variable {m x : Int64}
theorem qd_gd0 (h : qd_gd m) : ¬ m = 0 := by rcases h with rfl | rfl | rfl <;> decide
theorem qd_gdr (h : qd_gd m) (hx : qd_b x) : x - x / m * m = x := by
  rcases h with rfl | rfl | rfl <;> rcases hx with rfl | rfl <;> decide
theorem qd_gdc (h : qd_gd m) (hx : qd_b x) : 2 * x ≤ m := by
  rcases h with rfl | rfl | rfl <;> rcases hx with rfl | rfl <;> decide
theorem qd_gdi (h : qd_gd m) : m - m / 1 * 1 = 0 := by rcases h with rfl | rfl | rfl <;> decide
theorem qd_b0 (hx : qd_b x) : 0 ≤ x := by rcases hx with rfl | rfl <;> decide
theorem qd_bmo (hx : qd_b x) {i : Nat} : ∀ k, qd_b (qd_mo x i k) := by
  intro k
  by_cases e : k = i
  · rw [e, qd_mos]; exact hx
  · rw [qd_mon e]; exact Or.inl rfl
theorem qd_bz : ∀ k, qd_b (qd_z k) := fun _ => Or.inl rfl
theorem qd_b1 : qd_b 1 := Or.inr rfl
theorem qd_bb0 : qd_b 0 := Or.inl rfl
end
/-- coefficients: c and its amount ab -/
abbrev qd_sm (c ab : Int64) : Prop := ¬ c = 0 ∧ ¬ ab = 0 ∧ 0 ≤ ab ∧ ((0 ≤ c ∧ ab = c ∧ c / ab = 1) ∨ (¬ 0 ≤ c ∧ ab = -c ∧ ¬ -ab = 0 ∧ c / (-ab) = 1))
def qd_c (j : Nat) : Int32 := nI j - 20
def qd_ab (j : Nat) : Int32 := if 0 ≤ qd_c j then qd_c j else - qd_c j
theorem qd_smc : ∀ j, j < 41 → j ≠ 20 → qd_sm (qd_c j).toInt64 (qd_ab j).toInt64 := by decide +kernel
theorem qd_smn : ∀ n, n < 6 → 0 < n → qd_sm (lN n) (lN n) := by decide +kernel
theorem qd_sm1 : qd_sm 1 1 := by decide
end
section
section
variable {fc lc dc : Int32} {mo pr : Int64} {M N : Nat → Nat → Int64} {a2 a4 a5 a6 : Nat → Int32} {a3 : Nat → Int64}
variable {post : St2 → Prop} {pI : Int32 → Prop} {pL : Int64 → Prop}
theorem qd_copy (t f : Nat) (ht : t < 26) (hf : f < 26) (H : post (fc, mo, pr, lc, dc, qd_un (qd_up M t (M f)), a2, a3, a4, a5, a6)) : wpX_copy post (fc, mo, pr, lc, dc, qd_un M, a2, a3, a4, a5, a6) (nI t) (nI f) := by
  unfold wpX_copy
  exact pk_loop (fun n i s => wX_copy_2 post (nI t) (nI f) fc mo pr lc dc n (nI i) s a2 a3 a4 a5 a6) (fun i s => s = qd_pt M t (M f) i) 12 0 (qd_un M) (by omega) qd_pt0.symm
    (fun n s h => pk_le 12 12 (fun _ => by rw [h, qd_pt12]; exact H) (fun z => absurd z (by omega)))
    (fun n i s hi h hw => pk_le 12 i (fun z => absurd z (by omega)) (fun _ => ⟨qd_in hf hi, qd_in ht hi, nm_r (by rw [qd_cl hf hi, qd_cl ht hi, h, qd_ptc hi]; exact qd_ptw hi rfl) (nm_r (nI_1 i) (hw _ rfl))⟩))
theorem qd_clear (t : Nat) (ht : t < 26) (H : post (fc, mo, pr, lc, dc, qd_un (qd_up M t qd_z), a2, a3, a4, a5, a6)) : wpX_clear post (fc, mo, pr, lc, dc, qd_un M, a2, a3, a4, a5, a6) (nI t) := by
  unfold wpX_clear
  exact pk_loop (fun n i s => wX_clear_2 post (nI t) fc mo pr lc dc n (nI i) s a2 a3 a4 a5 a6) (fun i s => s = qd_pt M t qd_z i) 12 0 (qd_un M) (by omega) qd_pt0.symm
    (fun n s h => pk_le 12 12 (fun _ => by rw [h, qd_pt12]; exact H) (fun z => absurd z (by omega)))
    (fun n i s hi h hw => pk_le 12 i (fun z => absurd z (by omega)) (fun _ => ⟨qd_in ht hi, nm_r (by rw [qd_cl ht hi, h]; exact qd_ptw hi rfl) (nm_r (nI_1 i) (hw _ rfl))⟩))
theorem qd_degl {s i : Nat} (hs : s < 26) (hc : ¬ M s i = 0) (hz : ∀ k, i < k → k < 12 → M s k = 0) (H : pI (nI i)) (d : Nat) :
    i + d < 12 → wX_degreeOf_3 pI (nI s) fc mo pr lc dc (qd_un M) a2 a3 a4 a5 a6 (d + 1) (nI (i + d)) := by
  induction d with
  | zero => exact fun h => br_f (nI_pos (by omega)) ⟨qd_in hs h, br_f (by rw [qd_cl hs h, qd_rd h]; exact hc) H⟩
  | succ d ih => exact fun h => br_f (nI_pos (by omega)) ⟨qd_in hs h, br_t (by rw [qd_cl hs h, qd_rd h]; exact hz _ (by omega) h) (nm_r (pk_m1 (i + d)) (ih (by omega)))⟩
theorem qd_deg {c : Int64} (s i : Nat) (hs : s < 26) (hi : i < 12) (hc : ¬ c = 0) (hm : M s = qd_mo c i) (H : pI (nI i)) : wpX_degreeOf pI (fc, mo, pr, lc, dc, qd_un M, a2, a3, a4, a5, a6) (nI s) := by
  have h := qd_degl (M := M) (fc := fc) (mo := mo) (pr := pr) (lc := lc) (dc := dc) (a2 := a2) (a3 := a3) (a4 := a4) (a5 := a5) (a6 := a6) (pI := pI) hs (i := i) (by rw [hm, qd_mos]; exact hc) (fun k h1 h2 => by rw [hm, qd_mon (by omega)]) H (11 - i) (by omega)
  rw [show i + (11 - i) = 11 by omega] at h
  unfold wpX_degreeOf
  exact ⟨_, h⟩
theorem qd_deg0l {s : Nat} (hs : s < 26) (hz : M s = qd_z) (H : pI (-1)) (d : Nat) :
    d < 12 → wX_degreeOf_3 pI (nI s) fc mo pr lc dc (qd_un M) a2 a3 a4 a5 a6 (d + 2) (nI d) := by
  induction d with
  | zero => exact fun h => br_f (nI_pos (by omega)) ⟨qd_in hs h, br_t (by rw [qd_cl hs h, qd_rd h, hz]; rfl) (nm_r qd_m1 (br_t (by decide) H))⟩
  | succ d ih => exact fun h => br_f (nI_pos (by omega)) ⟨qd_in hs h, br_t (by rw [qd_cl hs h, qd_rd h, hz]; rfl) (nm_r (pk_m1 d) (ih (by omega)))⟩
theorem qd_deg0 (s : Nat) (hs : s < 26) (hz : M s = qd_z) (H : pI (-1)) : wpX_degreeOf pI (fc, mo, pr, lc, dc, qd_un M, a2, a3, a4, a5, a6) (nI s) := by
  unfold wpX_degreeOf
  exact ⟨13, qd_deg0l hs hz H 11 (by omega)⟩
theorem qd_lead {c : Int64} (s i : Nat) (hs : s < 26) (hi : i < 12) (hc : ¬ c = 0) (hm : M s = qd_mo c i) (H : pL c) : wpX_leadOf pL (fc, mo, pr, lc, dc, qd_un M, a2, a3, a4, a5, a6) (nI s) := by
  unfold wpX_leadOf
  refine qd_deg s i hs hi hc hm (br_t (nI_pos' (by omega)) ⟨qd_in hs hi, ?_⟩)
  rw [qd_cl hs hi, qd_rd hi, hm, qd_mos]
  exact H
theorem qd_cdp {b : Int64} (hb : 0 ≤ b) (H : pL b) : wpX_commonDivisor pL (fc, mo, pr, lc, dc, qd_un M, a2, a3, a4, a5, a6) 0 b := by
  unfold wpX_commonDivisor
  refine br_t (by decide) ?_
  unfold wX_commonDivisor_12
  exact br_t hb ⟨1, br_t rfl H⟩
theorem qd_cdn {b : Int64} (hb : ¬ 0 ≤ b) (H : pL (-b)) : wpX_commonDivisor pL (fc, mo, pr, lc, dc, qd_un M, a2, a3, a4, a5, a6) 0 b := by
  unfold wpX_commonDivisor
  refine br_t (by decide) ?_
  unfold wX_commonDivisor_12
  exact br_f hb (nm_e ⟨1, br_t rfl H⟩)
theorem qd_cdg {g : Int64} (hg : 0 ≤ g) (h0 : ¬ g = 0) (H : pL g) : wpX_commonDivisor pL (fc, mo, pr, lc, dc, qd_un M, a2, a3, a4, a5, a6) g 0 := by
  unfold wpX_commonDivisor
  refine br_t hg ?_
  unfold wX_commonDivisor_12
  exact br_t (by decide) ⟨2, br_f h0 ⟨h0, nm_r (show (0 : Int64) - 0 / g * g = 0 by rw [Int64.zero_div, Int64.zero_mul, Int64.sub_zero]) (br_t rfl H)⟩⟩
theorem qd_cd1 (H : pL 1) : wpX_commonDivisor pL (fc, mo, pr, lc, dc, qd_un M, a2, a3, a4, a5, a6) 1 1 := by
  unfold wpX_commonDivisor
  refine br_t (by decide) ?_
  unfold wX_commonDivisor_12
  exact br_t (by decide) ⟨2, br_f (by decide) ⟨by decide, nm_r (show (1 : Int64) - 1 / 1 * 1 = 0 by decide) (br_t rfl H)⟩⟩
theorem qd_content0 (s : Nat) (hs : s < 26) (hz : M s = qd_z) (H : pL 0) : wpX_contentOf pL (fc, mo, pr, lc, dc, qd_un M, a2, a3, a4, a5, a6) (nI s) := by
  unfold wpX_contentOf
  refine pk_loop (fun n k x => wX_contentOf_5 pL (nI s) fc mo pr lc dc (qd_un M) a2 a3 a4 a5 a6 n x (nI k)) (fun _ x => x = 0) 12 0 0 (by omega) rfl
    (fun n x h => pk_le 12 12 (fun _ => by rw [h]; exact H) (fun z => absurd z (by omega)))
    (fun n k x hk h hw => pk_le 12 k (fun z => absurd z (by omega)) (fun _ => ⟨qd_in hs hk, ?_⟩))
  rw [h, qd_cl hs hk, qd_rd hk, hz, show qd_z k = 0 from rfl]
  exact qd_cdp (by decide) (nm_r (nI_1 k) (hw _ rfl))
theorem qd_content {c ab : Int64} (s i : Nat) (hs : s < 26) (hi : i < 12) (hc : qd_sm c ab) (hm : M s = qd_mo c i) (H : pL ab) : wpX_contentOf pL (fc, mo, pr, lc, dc, qd_un M, a2, a3, a4, a5, a6) (nI s) := by
  unfold wpX_contentOf
  refine pk_loop (fun n k x => wX_contentOf_5 pL (nI s) fc mo pr lc dc (qd_un M) a2 a3 a4 a5 a6 n x (nI k)) (fun k x => x = if k ≤ i then 0 else ab) 12 0 0 (by omega) rfl
    (fun n x h => pk_le 12 12 (fun _ => by rw [h, if_neg (by omega)]; exact H) (fun z => absurd z (by omega)))
    (fun n k x hk h hw => pk_le 12 k (fun z => absurd z (by omega)) (fun _ => ⟨qd_in hs hk, ?_⟩))
  rw [h, qd_cl hs hk, qd_rd hk, hm]
  obtain ⟨h1, h2, h3, h4⟩ := hc
  by_cases e : k = i
  · rw [e, qd_mos, if_pos (Nat.le_refl i)]
    have hw' := hw ab (by rw [if_neg (by omega)])
    rw [e] at hw'
    rcases h4 with ⟨g, g1, _⟩ | ⟨g, g1, _⟩
    · exact qd_cdp g (nm_r (nI_1 i) (by rw [← g1]; exact hw'))
    · exact qd_cdn g (nm_r (nI_1 i) (by rw [← g1]; exact hw'))
  · rw [qd_mon e]
    by_cases e2 : k ≤ i
    · rw [if_pos e2]
      exact qd_cdp (by decide) (nm_r (nI_1 k) (hw _ (by rw [if_pos (by omega)])))
    · rw [if_neg e2]
      exact qd_cdg h3 h2 (nm_r (nI_1 k) (hw _ (by rw [if_neg (by omega)])))
theorem qd_prim29 {c x : Int64} {s i : Nat} (hs : s < 26) (hm : M s = qd_mo c i) (hx : ¬ x = 0) (hd : c / x = 1) (H : post (fc, mo, pr, lc, dc, qd_un (qd_up M s (qd_mo 1 i)), a2, a3, a4, a5, a6)) :
    ∃ n, wX_makePrimitive_29 post (nI s) x fc mo pr lc dc n 0 (qd_un M) a2 a3 a4 a5 a6 :=
  pk_loop (fun n k a => wX_makePrimitive_29 post (nI s) x fc mo pr lc dc n (nI k) a a2 a3 a4 a5 a6) (fun k a => a = qd_pt M s (qd_mo 1 i) k) 12 0 (qd_un M) (by omega) qd_pt0.symm
    (fun n a h => pk_le 12 12 (fun _ => by rw [h, qd_pt12]; exact H) (fun z => absurd z (by omega)))
    (fun n k a hk h hw => pk_le 12 k (fun z => absurd z (by omega)) (fun _ => ⟨qd_in hs hk, hx, qd_in hs hk, nm_r (by
      rw [qd_cl hs hk, h, qd_ptr hk]
      refine qd_ptw hk ?_
      rw [hm]
      by_cases e : k = i
      · rw [e, qd_mos, qd_mos, hd]
      · rw [qd_mon e, qd_mon e, Int64.zero_div]) (nm_r (nI_1 k) (hw _ rfl))⟩))
theorem qd_prim {c ab : Int64} (s i : Nat) (hs : s < 26) (hi : i < 12) (hc : qd_sm c ab) (hm : M s = qd_mo c i) (H : post (fc, mo, pr, lc, dc, qd_un (qd_up M s (qd_mo 1 i)), a2, a3, a4, a5, a6)) : wpX_makePrimitive post (fc, mo, pr, lc, dc, qd_un M, a2, a3, a4, a5, a6) (nI s) := by
  unfold wpX_makePrimitive
  refine qd_content s i hs hi hc hm (br_f hc.2.1 ?_)
  refine qd_lead s i hs hi hc.1 hm ?_
  rcases hc.2.2.2 with ⟨g, g1, g2⟩ | ⟨g, g1, g2, g3⟩
  · exact br_t g (qd_prim29 hs hm hc.2.1 g2 H)
  · exact br_f g (nm_e (qd_prim29 hs hm g2 g3 H))
theorem qd_derive (t s i : Nat) (ht : t < 26) (hs : s < 26) (hts : s ≠ t) (h1 : 0 < i) (hi : i < 12) (hm : M s = qd_mo 1 i) (H : post (fc, mo, pr, lc, dc, qd_un (qd_up M t (qd_mo (lN i) (i - 1))), a2, a3, a4, a5, a6)) : wpX_deriveInto post (fc, mo, pr, lc, dc, qd_un M, a2, a3, a4, a5, a6) (nI t) (nI s) := by
  unfold wpX_deriveInto
  refine pk_loop (fun n k a => wX_deriveInto_2 post (nI t) (nI s) fc mo pr lc dc n (nI k) a a2 a3 a4 a5 a6) (fun k a => a = qd_pt M t (qd_mo (lN i) (i - 1)) k) 11 0 (qd_un M) (by omega) qd_pt0.symm
    (fun n a h => pk_le 11 11 (fun _ => ?_) (fun z => absurd z (by omega)))
    (fun n k a hk h hw => pk_le 11 k (fun z => absurd z (by omega)) (fun _ => ?_))
  · have e : ((12 * nI t) + 12) - 1 = nI (12 * t + 11) := by
      rw [show (12 * nI t) + 12 = nI (12 * t + 11 + 1) from qd_ix t 12, nI_pred]
    rw [e, nI_clamp (by omega)]
    refine ⟨vp_in_nI (by omega) (by omega), nm_r ?_ H⟩
    rw [h, ← qd_pt12]
    exact qd_ptw (by omega) (qd_mon (by omega)).symm
  · have e : ((12 * nI s) + nI k) + 1 = nI (12 * s + (k + 1)) := by rw [qd_ix, nI_1, Nat.add_assoc]
    rw [e, nI_clamp (by omega), qd_cl ht (by omega), nI_1]
    refine ⟨vp_in_nI (by omega) (by omega), qd_in ht (by omega), nm_r ?_ (nm_e (hw _ rfl))⟩
    rw [h, qd_pto hts (by omega), hm, nI_l (by omega)]
    refine qd_ptw (by omega) ?_
    by_cases e2 : k + 1 = i
    · rw [e2, qd_mos, Int64.mul_one, show k = i - 1 by omega, qd_mos]
    · rw [qd_mon e2, Int64.mul_zero, qd_mon (by omega)]
end
end
section
section
variable {fc lc dc : Int32} {mo pr : Int64} {M N : Nat → Nat → Int64} {a2 a4 a5 a6 : Nat → Int32} {a3 : Nat → Int64}
variable {post : St2 → Prop} {pI : Int32 → Prop} {pL : Int64 → Prop}
theorem qd_rest {x : Int64} (hg : qd_gd mo) (hx : qd_b x) (H : pL x) : wpX_rest pL (fc, mo, pr, lc, dc, qd_un M, a2, a3, a4, a5, a6) x := by
  unfold wpX_rest
  exact ⟨qd_gd0 hg, nm_r (qd_gdr hg hx) (br_t (qd_b0 hx) H)⟩
theorem qd_reduce (s : Nat) (hs : s < 26) (hg : qd_gd mo) (hb : ∀ k, qd_b (M s k)) (H : post (fc, mo, pr, lc, dc, qd_un M, a2, a3, a4, a5, a6)) : wpX_reduce post (fc, mo, pr, lc, dc, qd_un M, a2, a3, a4, a5, a6) (nI s) := by
  unfold wpX_reduce
  refine pk_loop (fun n i a => wX_reduce_2 post (nI s) fc mo pr lc dc n (nI i) a a2 a3 a4 a5 a6) (fun i a => a = qd_un M) 12 0 (qd_un M) (by omega) rfl
    (fun n a h => pk_le 12 12 (fun _ => by rw [h]; exact H) (fun z => absurd z (by omega)))
    (fun n i a hi h hw => pk_le 12 i (fun z => absurd z (by omega)) (fun _ => ⟨qd_in hs hi, ?_⟩))
  rw [h, qd_cl hs hi, qd_rd hi]
  exact qd_rest hg (hb i) ⟨qd_in hs hi, nm_r (qd_wr0 hi rfl) (nm_r (nI_1 i) (hw _ rfl))⟩
theorem qd_scale (s : Nat) (hs : s < 26) (hg : qd_gd mo) (hb : ∀ k, qd_b (M s k)) (H : post (fc, mo, pr, lc, dc, qd_un M, a2, a3, a4, a5, a6)) : wpX_scale post (fc, mo, pr, lc, dc, qd_un M, a2, a3, a4, a5, a6) (nI s) 1 := by
  unfold wpX_scale
  refine pk_loop (fun n i a => wX_scale_3 post (nI s) 1 fc mo pr lc dc n (nI i) a a2 a3 a4 a5 a6) (fun i a => a = qd_un M) 12 0 (qd_un M) (by omega) rfl
    (fun n a h => pk_le 12 12 (fun _ => by rw [h]; exact H) (fun z => absurd z (by omega)))
    (fun n i a hi h hw => pk_le 12 i (fun z => absurd z (by omega)) (fun _ => ⟨qd_in hs hi, ?_⟩))
  rw [h, qd_cl hs hi, qd_rd hi, Int64.mul_one]
  exact qd_rest hg (hb i) ⟨qd_in hs hi, nm_r (qd_wr0 hi rfl) (nm_r (nI_1 i) (hw _ rfl))⟩
theorem qd_center (s : Nat) (hs : s < 26) (hg : qd_gd mo) (hb : ∀ k, qd_b (M s k)) (H : post (fc, mo, pr, lc, dc, qd_un M, a2, a3, a4, a5, a6)) : wpX_center post (fc, mo, pr, lc, dc, qd_un M, a2, a3, a4, a5, a6) (nI s) := by
  unfold wpX_center
  refine pk_loop (fun n i a => wX_center_2 post (nI s) fc mo pr lc dc n (nI i) a a2 a3 a4 a5 a6) (fun i a => a = qd_un M) 12 0 (qd_un M) (by omega) rfl
    (fun n a h => pk_le 12 12 (fun _ => by rw [h]; exact H) (fun z => absurd z (by omega)))
    (fun n i a hi h hw => pk_le 12 i (fun z => absurd z (by omega)) (fun _ => ⟨qd_in hs hi, br_t ?_ (nm_r (nI_1 i) (hw _ h))⟩))
  rw [h, qd_cl hs hi, qd_rd hi]
  exact qd_gdc hg (hb i)
theorem qd_inv (hg : qd_gd pr) (H : pL 1) : wpX_inverse pL (fc, mo, pr, lc, dc, qd_un M, a2, a3, a4, a5, a6) 1 := by
  unfold wpX_inverse
  refine ⟨qd_gd0 hg, nm_r (qd_gdr hg qd_b1) ⟨2, br_f (by decide) ⟨by decide, nm_e (nm_r (qd_gdi hg) (nm_e (br_t rfl (br_t (by decide) H))))⟩⟩⟩
theorem qd_monic (s i : Nat) (hs : s < 26) (hi : i < 12) (hg : qd_gd mo) (hp : qd_gd pr) (hm : M s = qd_mo 1 i) (H : post (fc, mo, pr, lc, dc, qd_un M, a2, a3, a4, a5, a6)) : wpX_makeMonic post (fc, mo, pr, lc, dc, qd_un M, a2, a3, a4, a5, a6) (nI s) := by
  unfold wpX_makeMonic
  refine qd_lead s i hs hi (by decide) hm (br_f (by decide) ?_)
  refine qd_inv hp ?_
  exact qd_scale s hs hg (by rw [hm]; exact qd_bmo qd_b1) H
/-- inner loop of divideModulo: the rest's coefficient q at i + d goes -/
theorem qd_dm88 {J : Int32 → (Nat → Int64) → (Nat → Int32) → (Nat → Int64) → (Nat → Int32) → (Nat → Int32) → (Nat → Int32) → Prop} {q : Int64} {b d i : Nat}
    (hg : qd_gd mo) (hq : qd_b q) (hb : b < 26) (hid : i + d < 12) (hb1 : b ≠ 10) (hB : N b = qd_mo 1 d) (hR : N 10 = qd_mo q (i + d))
    (H : J (nI i + (-1)) (qd_un (qd_up N 10 qd_z)) a2 a3 a4 a5 a6) :
    ∃ n, wX_divideModulo_88 post J (nI b) (nI d) 1 (nI i) q fc mo pr lc dc n 0 (qd_un N) a2 a3 a4 a5 a6 := by
  refine pk_loop (fun n k a => wX_divideModulo_88 post J (nI b) (nI d) 1 (nI i) q fc mo pr lc dc n (nI k) a a2 a3 a4 a5 a6) (fun k a => a = if k ≤ d then qd_un N else qd_un (qd_up N 10 qd_z)) (d + 1) 0 (qd_un N) (by omega) (if_pos (by omega)).symm
    (fun n a h => pk_lt d (d + 1) (fun _ => nm_e (by rw [h, if_neg (by omega)]; exact H)) (fun z => absurd z (by omega)))
    (fun n k a hk h hw => pk_lt d k (fun z => absurd z (by omega)) (fun _ => ?_))
  rw [if_pos (by omega)] at h
  rw [h, qd_cl hb (by omega), qd_rd (by omega), qd_clr (by omega), qd_rd (by omega), hB, hR]
  refine ⟨qd_in hb (by omega), qd_gd0 hg, ?_⟩
  by_cases e : k = d
  · rw [e, qd_mos, qd_mos, Int64.mul_one]
    refine nm_r (qd_gdr hg hq) ⟨qd_inr hid, ?_⟩
    rw [Int64.sub_self]
    refine qd_rest hg qd_bb0 ⟨qd_inr hid, nm_r (qd_wr hid) (nm_r (nI_1 d) ?_)⟩
    rw [e] at hw
    refine hw _ ?_
    rw [if_neg (by omega), hR]
    apply qd_ext
    intro t j hj
    by_cases g : t = 10
    · rw [g, qd_ups, qd_ups]
      by_cases g2 : j = i + d
      · rw [g2, pk_uLs]; rfl
      · rw [pk_uLn g2, qd_mon g2]; rfl
    · rw [qd_upn g, qd_upn g]
  · rw [qd_mon e, qd_mon (show i + k ≠ i + d by omega), Int64.mul_zero]
    refine nm_r (qd_gdr hg qd_bb0) ⟨qd_inr (by omega), ?_⟩
    rw [Int64.sub_self]
    refine qd_rest hg qd_bb0 ⟨qd_inr (by omega), nm_r (qd_wr0 (by omega) ?_) (nm_r (nI_1 k) (hw _ ?_))⟩
    · rw [hR, qd_mon (by omega)]
    · rw [if_pos (by omega)]
/-- one turn of divideModulo's outer loop -/
theorem qd_dm46 {q : Int64} {b d i n : Nat}
    (hg : qd_gd mo) (hq : qd_b q) (hb : b < 26) (hid : i + d < 12) (hb0 : b ≠ 9) (hb1 : b ≠ 10) (hB : N b = qd_mo 1 d) (hR : N 10 = qd_mo q (i + d))
    (H : wX_divideModulo_46 post (nI b) (nI d) 1 fc mo pr lc dc n (nI i + (-1)) (qd_un (qd_up (qd_up N 9 (vp_updL (N 9) i q)) 10 qd_z)) a2 a3 a4 a5 a6) :
    wX_divideModulo_46 post (nI b) (nI d) 1 fc mo pr lc dc (n + 1) (nI i) (qd_un N) a2 a3 a4 a5 a6 := by
  refine br_f (nI_pos (by omega)) ⟨qd_inr hid, qd_gd0 hg, ?_⟩
  rw [qd_clr hid, qd_rd hid, hR, qd_mos, Int64.mul_one, qd_clq (by omega)]
  refine nm_r (qd_gdr hg hq) ⟨qd_inq (by omega), nm_r (qd_wr (by omega)) ?_⟩
  refine qd_dm88 hg hq hb hid hb1 ?_ ?_ H
  · rw [qd_upn hb0, hB]
  · rw [qd_upn (by decide), hR]
theorem qd_dmT {b d e : Nat} (hg : qd_gd mo) (hb : b < 26) (hb0 : b ≠ 9) (hb1 : b ≠ 10) (hB : N b = qd_mo 1 d) (hR : N 10 = qd_z) (hQ : N 9 = qd_mo 1 e) (H : post (fc, mo, pr, lc, dc, qd_un N, a2, a3, a4, a5, a6)) (i : Nat) :
    i < e → i + d < 12 → wX_divideModulo_46 post (nI b) (nI d) 1 fc mo pr lc dc (i + 2) (nI i) (qd_un N) a2 a3 a4 a5 a6 := by
  have E : ∀ i, i < e → qd_up (qd_up N 9 (vp_updL (N 9) i 0)) 10 qd_z = N := by
    intro i hi
    have E1 : vp_updL (N 9) i 0 = N 9 := by
      funext j
      by_cases g : j = i
      · rw [g, pk_uLs, hQ, qd_mon (by omega)]
      · rw [pk_uLn g]
    rw [E1, qd_same rfl, qd_same hR]
  induction i with
  | zero =>
    intro h h2
    refine qd_dm46 hg qd_bb0 hb h2 hb0 hb1 hB (by rw [hR, qd_mo0]) ?_
    rw [E 0 h, qd_m1]
    exact br_t (by decide) H
  | succ i ih =>
    intro h h2
    refine qd_dm46 hg qd_bb0 hb h2 hb0 hb1 hB (by rw [hR, qd_mo0]) ?_
    rw [E _ h, pk_m1]
    exact ih (by omega) (by omega)
theorem qd_divM (a b m d : Nat) (ha : a < 26) (hb : b < 26) (hb0 : b ≠ 9) (hb1 : b ≠ 10) (hm : m < 12) (hdm : d ≤ m) (hg : qd_gd mo) (hp : qd_gd pr)
    (hA : M a = qd_mo 1 m) (hB : M b = qd_mo 1 d)
    (H : ∀ N : Nat → Nat → Int64, N 9 = qd_mo 1 (m - d) → N 10 = qd_z → (∀ s, s ≠ 9 → s ≠ 10 → N s = M s) → post (fc, mo, pr, lc, dc, qd_un N, a2, a3, a4, a5, a6)) : wpX_divideModulo post (fc, mo, pr, lc, dc, qd_un M, a2, a3, a4, a5, a6) (nI a) (nI b) := by
  unfold wpX_divideModulo
  refine qd_copy 10 a (by decide) ha ?_
  refine qd_clear 9 (by decide) ?_
  have B' : qd_up (qd_up M 10 (M a)) 9 qd_z b = qd_mo 1 d := by rw [qd_upn hb0, qd_upn hb1, hB]
  have R' : qd_up (qd_up M 10 (M a)) 9 qd_z 10 = qd_mo 1 m := by rw [qd_upn (by decide), qd_ups, hA]
  have Q' : qd_up (qd_up M 10 (M a)) 9 qd_z 9 = qd_z := qd_ups
  have F' : ∀ s, s ≠ 9 → s ≠ 10 → qd_up (qd_up M 10 (M a)) 9 qd_z s = M s := fun s h1 h2 => by rw [qd_upn h1, qd_upn h2]
  generalize qd_up (qd_up M 10 (M a)) 9 qd_z = N at B' R' Q' F' ⊢
  refine qd_deg b d hb (by omega) (by decide) B' ⟨qd_in hb (by omega), ?_⟩
  rw [qd_cl hb (by omega), qd_rd (by omega), B', qd_mos]
  refine qd_inv hp ?_
  refine qd_deg 10 m (by decide) hm (by decide) R' ?_
  refine nm_r (pk_sub hdm) ?_
  have P : ∀ s, s ≠ 9 → s ≠ 10 → qd_up (qd_up N 9 (vp_updL (N 9) (m - d) 1)) 10 qd_z s = M s := fun s h1 h2 => by rw [qd_upn h2, qd_upn h1, F' s h1 h2]
  have P9 : qd_up (qd_up N 9 (vp_updL (N 9) (m - d) 1)) 10 qd_z 9 = qd_mo 1 (m - d) := by rw [qd_upn (by decide), qd_ups, Q']; rfl
  have P10 : qd_up (qd_up N 9 (vp_updL (N 9) (m - d) 1)) 10 qd_z 10 = qd_z := qd_ups
  refine ⟨m - d + 2, ?_⟩
  refine qd_dm46 hg qd_b1 hb (by omega) hb0 hb1 B' (by rw [R', show m - d + d = m by omega]) ?_
  generalize qd_up (qd_up N 9 (vp_updL (N 9) (m - d) 1)) 10 qd_z = K at P P9 P10 ⊢
  have HK := H K P9 P10 P
  have BK : K b = qd_mo 1 d := by rw [P b hb0 hb1, hB]
  rcases Nat.eq_zero_or_pos (m - d) with z | z
  · rw [z, qd_m1]
    exact br_t (by decide) HK
  · obtain ⟨e, he⟩ : ∃ e, m - d = e + 1 := ⟨m - d - 1, by omega⟩
    rw [he] at P9
    rw [he, pk_m1]
    exact qd_dmT hg hb hb0 hb1 BK P10 P9 HK e (by omega) (by omega)
theorem qd_comM (t a b m d : Nat) (ht : t < 26) (ha : a < 26) (hb : b < 26) (htb : b ≠ t) (ht8 : t ≠ 8) (ht9 : t ≠ 9) (ht10 : t ≠ 10) (hm : m < 12) (hdm : d ≤ m) (hg : qd_gd mo) (hp : qd_gd pr)
    (hA : M a = qd_mo 1 m) (hB : M b = qd_mo 1 d)
    (H : ∀ N : Nat → Nat → Int64, N t = qd_mo 1 d → (∀ s, s ≠ t → s ≠ 8 → s ≠ 9 → s ≠ 10 → N s = M s) → post (fc, mo, pr, lc, dc, qd_un N, a2, a3, a4, a5, a6)) : wpX_commonModulo post (fc, mo, pr, lc, dc, qd_un M, a2, a3, a4, a5, a6) (nI t) (nI a) (nI b) := by
  unfold wpX_commonModulo
  refine qd_copy t a ht ha ?_
  refine qd_copy 8 b (by decide) hb ?_
  have T1 : qd_up (qd_up M t (M a)) 8 (qd_up M t (M a) b) t = qd_mo 1 m := by rw [qd_upn ht8, qd_ups, hA]
  have E1 : qd_up (qd_up M t (M a)) 8 (qd_up M t (M a) b) 8 = qd_mo 1 d := by rw [qd_ups, qd_upn htb, hB]
  have F1 : ∀ s, s ≠ t → s ≠ 8 → qd_up (qd_up M t (M a)) 8 (qd_up M t (M a) b) s = M s := fun s h1 h2 => by rw [qd_upn h2, qd_upn h1]
  generalize qd_up (qd_up M t (M a)) 8 (qd_up M t (M a) b) = N at T1 E1 F1 ⊢
  refine qd_reduce t ht hg (by rw [T1]; exact qd_bmo qd_b1) ?_
  refine qd_reduce 8 (by decide) hg (by rw [E1]; exact qd_bmo qd_b1) ?_
  refine ⟨2, ?_⟩
  refine qd_deg 8 d (by decide) (by omega) (by decide) E1 (br_f (nI_pos (by omega)) ?_)
  refine qd_divM t 8 m d ht (by decide) (by decide) (by decide) hm hdm hg hp T1 E1 ?_
  intro K K9 K10 KF
  refine qd_copy t 8 ht (by decide) ?_
  refine qd_copy 8 10 (by decide) (by decide) ?_
  have T2 : qd_up (qd_up K t (K 8)) 8 (qd_up K t (K 8) 10) t = qd_mo 1 d := by rw [qd_upn ht8, qd_ups, KF 8 (by decide) (by decide), E1]
  have E2 : qd_up (qd_up K t (K 8)) 8 (qd_up K t (K 8) 10) 8 = qd_z := by rw [qd_ups, qd_upn (Ne.symm ht10), K10]
  have F2 : ∀ s, s ≠ t → s ≠ 8 → s ≠ 9 → s ≠ 10 → qd_up (qd_up K t (K 8)) 8 (qd_up K t (K 8) 10) s = M s := fun s h1 h2 h3 h4 => by rw [qd_upn h2, qd_upn h1, KF s h3 h4, F1 s h1 h2]
  generalize qd_up (qd_up K t (K 8)) 8 (qd_up K t (K 8) 10) = L at T2 E2 F2 ⊢
  refine qd_deg0 8 (by decide) E2 (br_t (by decide) ?_)
  exact qd_monic t d ht (by omega) hg hp T2 (H L T2 F2)
end
end
section
section
variable {fc lc dc : Int32} {mo pr : Int64} {M N : Nat → Nat → Int64} {a2 a4 a5 a6 : Nat → Int32} {a3 : Nat → Int64}
variable {post : St2 → Prop} {pB : Int32 → St2 → Prop} {pI : Int32 → Prop} {pL : Int64 → Prop}
/-- inner loop of divide -/
theorem qd_dv95 {J : Int32 → (Nat → Int64) → (Nat → Int32) → (Nat → Int64) → (Nat → Int32) → (Nat → Int32) → (Nat → Int32) → Prop} {q : Int64} {b d i : Nat}
    (hb : b < 26) (hid : i + d < 12) (hb1 : b ≠ 10) (hB : N b = qd_mo 1 d) (hR : N 10 = qd_mo q (i + d))
    (H : J (nI i + (-1)) (qd_un (qd_up N 10 qd_z)) a2 a3 a4 a5 a6) :
    ∃ n, wX_divide_95 pB J (nI b) (nI d) 1 (nI i) q fc mo pr lc dc n 0 (qd_un N) a2 a3 a4 a5 a6 := by
  refine pk_loop (fun n k a => wX_divide_95 pB J (nI b) (nI d) 1 (nI i) q fc mo pr lc dc n (nI k) a a2 a3 a4 a5 a6) (fun k a => a = if k ≤ d then qd_un N else qd_un (qd_up N 10 qd_z)) (d + 1) 0 (qd_un N) (by omega) (if_pos (by omega)).symm
    (fun n a h => pk_lt d (d + 1) (fun _ => nm_e (by rw [h, if_neg (by omega)]; exact H)) (fun z => absurd z (by omega)))
    (fun n k a hk h hw => pk_lt d k (fun z => absurd z (by omega)) (fun _ => ?_))
  rw [if_pos (by omega)] at h
  rw [h, qd_cl hb (by omega), qd_rd (by omega), qd_clr (by omega), qd_rd (by omega), hB, hR]
  refine ⟨qd_inr (by omega), qd_in hb (by omega), qd_inr (by omega), ?_⟩
  by_cases e : k = d
  · rw [e, qd_mos, qd_mos, Int64.mul_one, Int64.sub_self]
    refine nm_r (qd_wr hid) (nm_r (nI_1 d) ?_)
    rw [e] at hw
    refine hw _ ?_
    rw [if_neg (by omega), hR]
    apply qd_ext
    intro t j hj
    by_cases g : t = 10
    · rw [g, qd_ups, qd_ups]
      by_cases g2 : j = i + d
      · rw [g2, pk_uLs]; rfl
      · rw [pk_uLn g2, qd_mon g2]; rfl
    · rw [qd_upn g, qd_upn g]
  · rw [qd_mon e, qd_mon (show i + k ≠ i + d by omega), Int64.mul_zero, Int64.sub_self]
    refine nm_r (qd_wr0 (by omega) ?_) (nm_r (nI_1 k) (hw _ ?_))
    · rw [hR, qd_mon (by omega)]
    · rw [if_pos (by omega)]
/-- one turn of divide's outer loop -/
theorem qd_dv42 {q : Int64} {b d i n : Nat}
    (hq : qd_b q) (hb : b < 26) (hid : i + d < 12) (hb0 : b ≠ 9) (hb1 : b ≠ 10) (hB : N b = qd_mo 1 d) (hR : N 10 = qd_mo q (i + d))
    (H : wX_divide_42 pB (nI b) (nI d) 1 fc mo pr lc dc n (nI i + (-1)) (qd_un (qd_up (qd_up N 9 (vp_updL (N 9) i q)) 10 qd_z)) a2 a3 a4 a5 a6) :
    wX_divide_42 pB (nI b) (nI d) 1 fc mo pr lc dc (n + 1) (nI i) (qd_un N) a2 a3 a4 a5 a6 := by
  refine br_f (nI_pos (by omega)) ⟨qd_inr hid, ?_⟩
  rw [qd_clr hid, qd_rd hid, hR, qd_mos, qd_clq (by omega)]
  have h1 : q - q / 1 * 1 = 0 := by rcases hq with rfl | rfl <;> decide
  have h2 : q / 1 = q := by rcases hq with rfl | rfl <;> decide
  refine nm_e ⟨by decide, br_t h1 ⟨by decide, nm_r h2 ⟨qd_inq (by omega), nm_r (qd_wr (by omega)) ?_⟩⟩⟩
  refine qd_dv95 hb hid hb1 ?_ ?_ H
  · rw [qd_upn hb0, hB]
  · rw [qd_upn (by decide), hR]
theorem qd_dvE {b d n : Nat} (hR : N 10 = qd_z) (H : pB 1 (fc, mo, pr, lc, dc, qd_un N, a2, a3, a4, a5, a6)) : wX_divide_42 pB (nI b) (nI d) 1 fc mo pr lc dc (n + 1) (-1) (qd_un N) a2 a3 a4 a5 a6 := by
  refine br_t (by decide) ?_
  refine qd_deg0 10 (by decide) hR ?_
  exact br_f (by decide) H
theorem qd_dvT {b d e : Nat} (hb : b < 26) (hb0 : b ≠ 9) (hb1 : b ≠ 10) (hB : N b = qd_mo 1 d) (hR : N 10 = qd_z) (hQ : N 9 = qd_mo 1 e) (H : pB 1 (fc, mo, pr, lc, dc, qd_un N, a2, a3, a4, a5, a6)) (i : Nat) :
    i < e → i + d < 12 → wX_divide_42 pB (nI b) (nI d) 1 fc mo pr lc dc (i + 2) (nI i) (qd_un N) a2 a3 a4 a5 a6 := by
  have E : ∀ i, i < e → qd_up (qd_up N 9 (vp_updL (N 9) i 0)) 10 qd_z = N := by
    intro i hi
    have E1 : vp_updL (N 9) i 0 = N 9 := by
      funext j
      by_cases g : j = i
      · rw [g, pk_uLs, hQ, qd_mon (by omega)]
      · rw [pk_uLn g]
    rw [E1, qd_same rfl, qd_same hR]
  induction i with
  | zero =>
    intro h h2
    refine qd_dv42 qd_bb0 hb h2 hb0 hb1 hB (by rw [hR, qd_mo0]) ?_
    rw [E 0 h, qd_m1]
    exact qd_dvE hR H
  | succ i ih =>
    intro h h2
    refine qd_dv42 qd_bb0 hb h2 hb0 hb1 hB (by rw [hR, qd_mo0]) ?_
    rw [E _ h, pk_m1]
    exact ih (by omega) (by omega)
/-- x^m by x^d, d at most m -/
theorem qd_div (a b m d : Nat) (ha : a < 26) (hb : b < 26) (hb0 : b ≠ 9) (hb1 : b ≠ 10) (hm : m < 12) (hdm : d ≤ m)
    (hA : M a = qd_mo 1 m) (hB : M b = qd_mo 1 d)
    (H : ∀ N : Nat → Nat → Int64, N 9 = qd_mo 1 (m - d) → (∀ s, s ≠ 9 → s ≠ 10 → N s = M s) → pB 1 (fc, mo, pr, lc, dc, qd_un N, a2, a3, a4, a5, a6)) : wpX_divide pB (fc, mo, pr, lc, dc, qd_un M, a2, a3, a4, a5, a6) (nI a) (nI b) := by
  unfold wpX_divide
  refine qd_copy 10 a (by decide) ha ?_
  refine qd_clear 9 (by decide) ?_
  have B' : qd_up (qd_up M 10 (M a)) 9 qd_z b = qd_mo 1 d := by rw [qd_upn hb0, qd_upn hb1, hB]
  have R' : qd_up (qd_up M 10 (M a)) 9 qd_z 10 = qd_mo 1 m := by rw [qd_upn (by decide), qd_ups, hA]
  have Q' : qd_up (qd_up M 10 (M a)) 9 qd_z 9 = qd_z := qd_ups
  have F' : ∀ s, s ≠ 9 → s ≠ 10 → qd_up (qd_up M 10 (M a)) 9 qd_z s = M s := fun s h1 h2 => by rw [qd_upn h1, qd_upn h2]
  generalize qd_up (qd_up M 10 (M a)) 9 qd_z = N at B' R' Q' F' ⊢
  refine qd_deg b d hb (by omega) (by decide) B' ⟨qd_in hb (by omega), ?_⟩
  rw [qd_cl hb (by omega), qd_rd (by omega), B', qd_mos]
  refine nm_e ?_
  refine qd_deg 10 m (by decide) hm (by decide) R' ?_
  refine nm_r (pk_sub hdm) ?_
  have P : ∀ s, s ≠ 9 → s ≠ 10 → qd_up (qd_up N 9 (vp_updL (N 9) (m - d) 1)) 10 qd_z s = M s := fun s h1 h2 => by rw [qd_upn h2, qd_upn h1, F' s h1 h2]
  have P9 : qd_up (qd_up N 9 (vp_updL (N 9) (m - d) 1)) 10 qd_z 9 = qd_mo 1 (m - d) := by rw [qd_upn (by decide), qd_ups, Q']; rfl
  have P10 : qd_up (qd_up N 9 (vp_updL (N 9) (m - d) 1)) 10 qd_z 10 = qd_z := qd_ups
  refine ⟨m - d + 2, ?_⟩
  refine qd_dv42 qd_b1 hb (by omega) hb0 hb1 B' (by rw [R', show m - d + d = m by omega]) ?_
  generalize qd_up (qd_up N 9 (vp_updL (N 9) (m - d) 1)) 10 qd_z = K at P P9 P10 ⊢
  have HK := H K P9 P
  have BK : K b = qd_mo 1 d := by rw [P b hb0 hb1, hB]
  rcases Nat.eq_zero_or_pos (m - d) with z | z
  · rw [z, qd_m1]
    exact qd_dvE P10 HK
  · obtain ⟨e, he⟩ : ∃ e, m - d = e + 1 := ⟨m - d - 1, by omega⟩
    rw [he] at P9
    rw [he, pk_m1]
    exact qd_dvT hb hb0 hb1 BK P10 P9 HK e (by omega) (by omega)
/-- 1 by x: it doesn't go -/
theorem qd_div01 (a b : Nat) (ha : a < 26) (hb : b < 26) (hb0 : b ≠ 9) (hb1 : b ≠ 10)
    (hA : M a = qd_mo 1 0) (hB : M b = qd_mo 1 1)
    (H : ∀ N : Nat → Nat → Int64, (∀ s, s ≠ 9 → s ≠ 10 → N s = M s) → pB 0 (fc, mo, pr, lc, dc, qd_un N, a2, a3, a4, a5, a6)) : wpX_divide pB (fc, mo, pr, lc, dc, qd_un M, a2, a3, a4, a5, a6) (nI a) (nI b) := by
  unfold wpX_divide
  refine qd_copy 10 a (by decide) ha ?_
  refine qd_clear 9 (by decide) ?_
  have B' : qd_up (qd_up M 10 (M a)) 9 qd_z b = qd_mo 1 1 := by rw [qd_upn hb0, qd_upn hb1, hB]
  have R' : qd_up (qd_up M 10 (M a)) 9 qd_z 10 = qd_mo 1 0 := by rw [qd_upn (by decide), qd_ups, hA]
  have F' : ∀ s, s ≠ 9 → s ≠ 10 → qd_up (qd_up M 10 (M a)) 9 qd_z s = M s := fun s h1 h2 => by rw [qd_upn h1, qd_upn h2]
  generalize qd_up (qd_up M 10 (M a)) 9 qd_z = N at B' R' F' ⊢
  refine qd_deg b 1 hb (by omega) (by decide) B' ⟨qd_in hb (by omega), ?_⟩
  rw [qd_cl hb (by omega), qd_rd (by omega), B', qd_mos]
  refine nm_e ?_
  refine qd_deg 10 0 (by decide) (by decide) (by decide) R' ?_
  refine nm_r (show nI 0 - nI 1 = -1 by decide) ?_
  refine ⟨1, br_t (by decide) ?_⟩
  refine qd_deg 10 0 (by decide) (by decide) (by decide) R' ?_
  exact br_t (by decide) (H N F')
/-- tryPrime over x^m and x^d -/
theorem qd_try (P : Int64) (m d : Nat) (hP : qd_gd P) (hm : m < 12) (hdm : d ≤ m) (h6 : M 6 = qd_mo 1 m) (h7 : M 7 = qd_mo 1 d)
    (H : ∀ N : Nat → Nat → Int64, N 22 = qd_mo 1 d → (∀ s, s ≠ 8 → s ≠ 9 → s ≠ 10 → s ≠ 22 → N s = M s) → pB 1 (fc, P, P, lc, dc, qd_un N, a2, a3, a4, a5, a6)) : wpX_tryPrime pB (fc, mo, pr, lc, dc, qd_un M, a2, a3, a4, a5, a6) P := by
  unfold wpX_tryPrime
  refine qd_lead 6 m (by decide) hm (by decide) h6 ?_
  refine qd_lead 7 d (by decide) (by omega) (by decide) h7 ?_
  refine qd_cd1 ?_
  refine qd_comM 22 6 7 m d (by decide) (by decide) (by decide) (by decide) (by decide) (by decide) (by decide) hm hdm hP hP h6 h7 ?_
  intro N N22 NF
  have hb : ∀ k, qd_b (N 22 k) := by rw [N22]; exact qd_bmo qd_b1
  refine qd_scale 22 (by decide) hP hb ?_
  refine qd_center 22 (by decide) hP hb ?_
  refine qd_prim 22 d (by decide) (by omega) qd_sm1 N22 ?_
  rw [qd_same N22]
  refine qd_div 6 22 m d (by decide) (by decide) (by decide) (by decide) hm hdm (by rw [NF 6 (by decide) (by decide) (by decide) (by decide), h6]) N22 ?_
  intro K _ KF
  refine br_f (by decide) ?_
  refine qd_div 7 22 d d (by decide) (by decide) (by decide) (by decide) (by omega) (Nat.le_refl d) (by rw [KF 7 (by decide) (by decide), NF 7 (by decide) (by decide) (by decide) (by decide), h7]) (by rw [KF 22 (by decide) (by decide), N22]) ?_
  intro L _ LF
  refine br_f (by decide) ?_
  refine H L ?_ ?_
  · rw [LF 22 (by decide) (by decide), KF 22 (by decide) (by decide), N22]
  · intro s h8 h9 h10 h22
    rw [LF s h9 h10, KF s h9 h10, NF s h22 h8 h9 h10]
/-- greatestCommon(23, 4, 24) over x^m and c x^d -/
theorem qd_great {c ab : Int64} (m d : Nat) (hm : m < 12) (hdm : d ≤ m) (hc : qd_sm c ab) (h4 : M 4 = qd_mo 1 m) (h24 : M 24 = qd_mo c d)
    (H : ∀ N : Nat → Nat → Int64, N 23 = qd_mo 1 d → (∀ s, s < 6 → N s = M s) → post (fc, 2147483647, 2147483647, lc, dc, qd_un N, a2, a3, a4, a5, a6)) : wpX_greatestCommon post (fc, mo, pr, lc, dc, qd_un M, a2, a3, a4, a5, a6) 23 4 24 := by
  unfold wpX_greatestCommon
  refine qd_copy 6 4 (by decide) (by decide) ?_
  refine qd_copy 7 24 (by decide) (by decide) ?_
  have A6 : qd_up (qd_up M 6 (M 4)) 7 (qd_up M 6 (M 4) 24) 6 = qd_mo 1 m := by rw [qd_upn (by decide), qd_ups, h4]
  have A7 : qd_up (qd_up M 6 (M 4)) 7 (qd_up M 6 (M 4) 24) 7 = qd_mo c d := by rw [qd_ups, qd_upn (by decide), h24]
  have AF : ∀ s, s < 6 → qd_up (qd_up M 6 (M 4)) 7 (qd_up M 6 (M 4) 24) s = M s := fun s h => by rw [qd_upn (by omega), qd_upn (by omega)]
  generalize qd_up (qd_up M 6 (M 4)) 7 (qd_up M 6 (M 4) 24) = A at A6 A7 AF ⊢
  refine qd_prim 6 m (by decide) hm qd_sm1 A6 ?_
  rw [qd_same A6]
  refine qd_prim 7 d (by decide) (by omega) hc A7 ?_
  have B6 : qd_up A 7 (qd_mo 1 d) 6 = qd_mo 1 m := by rw [qd_upn (by decide), A6]
  have B7 : qd_up A 7 (qd_mo 1 d) 7 = qd_mo 1 d := qd_ups
  have BF : ∀ s, s < 6 → qd_up A 7 (qd_mo 1 d) s = M s := fun s h => by rw [qd_upn (by omega), AF s h]
  generalize qd_up A 7 (qd_mo 1 d) = B at B6 B7 BF ⊢
  refine qd_deg 6 m (by decide) hm (by decide) B6 (br_f (nI_pos (by omega)) ?_)
  refine qd_deg 7 d (by decide) (by omega) (by decide) B7 (br_t (nI_pos' (by omega)) ?_)
  refine qd_try 2147483647 m d (Or.inl rfl) hm hdm B6 B7 ?_
  intro N N22 NF
  refine br_f (by decide) ?_
  unfold wX_greatestCommon_88
  refine qd_copy 23 22 (by decide) (by decide) ?_
  refine H _ (by rw [qd_ups, N22]) ?_
  intro s h
  rw [qd_upn (by omega), NF s (by omega) (by omega) (by omega) (by omega), BF s h]
/-- splitOffMultiple over x^m: what is left is x -/
theorem qd_split (m : Nat) (h1 : 0 < m) (hm : m < 6) (h4 : M 4 = qd_mo 1 m)
    (H : ∀ N : Nat → Nat → Int64, N 5 = qd_mo 1 1 → (∀ s, s < 5 → N s = M s) → post (fc, 2147483647, 2147483647, lc, dc, qd_un N, a2, a3, a4, a5, a6)) : wpX_splitOffMultiple post (fc, mo, pr, lc, dc, qd_un M, a2, a3, a4, a5, a6) := by
  unfold wpX_splitOffMultiple
  refine qd_derive 24 4 m (by decide) (by decide) (by decide) h1 (by omega) h4 ?_
  refine qd_great m (m - 1) (by omega) (by omega) (qd_smn m hm h1) (by rw [qd_upn (by decide), h4]) qd_ups ?_
  intro N N23 NF
  refine qd_div 4 23 m (m - 1) (by decide) (by decide) (by decide) (by decide) (by omega) (by omega) (by rw [NF 4 (by decide), qd_upn (by decide), h4]) N23 ?_
  intro K K9 KF
  refine qd_copy 5 9 (by decide) (by decide) ?_
  refine H _ ?_ ?_
  · rw [qd_ups, K9, show m - (m - 1) = 1 by omega]
  · intro s h
    rw [qd_upn (by omega), KF s (by omega) (by omega), NF s (by omega), qd_upn (by omega)]
end
end
section
section
variable {fc lc dc : Int32} {mo pr : Int64} {M N : Nat → Nat → Int64} {a2 a4 a5 a6 : Nat → Int32} {a3 : Nat → Int64}
variable {post : St2 → Prop} {pB : Int32 → St2 → Prop} {pI : Int32 → Prop} {pL : Int64 → Prop}
theorem qd_gd3 : qd_gd 3 := Or.inr (Or.inl rfl)
theorem qd_gdt : qd_gd 177147 := Or.inr (Or.inr rfl)
theorem qd_good (h5 : M 5 = qd_mo 1 1) (H : ∀ N : Nat → Nat → Int64, (∀ s, s < 6 → N s = M s) → pB 1 (fc, 3, 3, lc, dc, qd_un N, a2, a3, a4, a5, a6)) : wpX_isGoodPrime pB (fc, mo, pr, lc, dc, qd_un M, a2, a3, a4, a5, a6) 3 := by
  unfold wpX_isGoodPrime
  refine qd_lead 5 1 (by decide) (by decide) (by decide) h5 ⟨by decide, br_f (by decide) ?_⟩
  refine qd_derive 24 5 1 (by decide) (by decide) (by decide) (by decide) (by decide) h5 ?_
  have h24 : qd_up M 24 (qd_mo (lN 1) (1 - 1)) 24 = qd_mo 1 0 := by rw [qd_ups]; rfl
  have h5' : qd_up M 24 (qd_mo (lN 1) (1 - 1)) 5 = qd_mo 1 1 := by rw [qd_upn (by decide), h5]
  refine qd_comM 23 5 24 1 0 (by decide) (by decide) (by decide) (by decide) (by decide) (by decide) (by decide) (by decide) (by decide) qd_gd3 qd_gd3 h5' h24 ?_
  intro N N23 NF
  refine qd_deg 23 0 (by decide) (by decide) (by decide) N23 (br_t (by decide) ?_)
  refine H N ?_
  intro s h
  rw [NF s (by omega) (by omega) (by omega) (by omega), qd_upn (by omega)]
theorem qd_choose (h5 : M 5 = qd_mo 1 1) (H : ∀ N : Nat → Nat → Int64, (∀ s, s < 6 → N s = M s) → post (fc, 3, 3, lc, dc, qd_un N, a2, a3, a4, a5, a6)) : wpX_choosePrime post (fc, mo, pr, lc, dc, qd_un M, a2, a3, a4, a5, a6) := by
  unfold wpX_choosePrime
  refine ⟨1, ?_⟩
  unfold wX_choosePrime_4
  refine qd_good h5 ?_
  intro N hN
  exact br_f (by decide) (H N hN)
theorem qd_tu72 {q : Int64} (hg : qd_gd mo) (hq : qd_b q) (h23 : N 23 = qd_mo q 1) (h24 : N 24 = qd_mo 1 1) (H : post (fc, mo, pr, lc, dc, qd_un (qd_up N 23 qd_z), a2, a3, a4, a5, a6)) :
    ∃ n, wX_timesUnknown_72 post (nI 23) (nI 24) (nI 1) q fc mo pr lc dc n 0 (qd_un N) a2 a3 a4 a5 a6 := by
  refine pk_loop (fun n k a => wX_timesUnknown_72 post (nI 23) (nI 24) (nI 1) q fc mo pr lc dc n (nI k) a a2 a3 a4 a5 a6) (fun k a => a = if k ≤ 1 then qd_un N else qd_un (qd_up N 23 qd_z)) 2 0 (qd_un N) (by omega) (if_pos (by omega)).symm
    (fun n a h => pk_lt 1 2 (fun _ => by rw [h, if_neg (by omega)]; exact H) (fun z => absurd z (by omega)))
    (fun n k a hk h hw => pk_lt 1 k (fun z => absurd z (by omega)) (fun _ => ?_))
  rw [if_pos (by omega)] at h
  rw [h, qd_cl (s := 23) (by decide) (by omega), qd_cl (s := 24) (by decide) (by omega), qd_rd (s := 23) (by omega), qd_rd (s := 24) (by omega), h23, h24]
  refine ⟨qd_in (by decide) (by omega), qd_in (by decide) (by omega), qd_gd0 hg, ?_⟩
  by_cases e : k = 1
  · rw [e, qd_mos, qd_mos, Int64.mul_one, qd_gdr hg hq, Int64.sub_self]
    rw [e] at hw
    refine qd_rest hg qd_bb0 ⟨qd_in (by decide) (by decide), nm_r (qd_wr (by decide)) (nm_r (nI_1 1) (hw _ ?_))⟩
    rw [if_neg (by omega), h23]
    apply qd_ext
    intro t j hj
    by_cases g : t = 23
    · rw [g, qd_ups, qd_ups]
      by_cases g2 : j = 1
      · rw [g2, pk_uLs]; rfl
      · rw [pk_uLn g2, qd_mon g2]; rfl
    · rw [qd_upn g, qd_upn g]
  · rw [qd_mon e, qd_mon e, Int64.mul_zero, qd_gdr hg qd_bb0, Int64.sub_self]
    refine qd_rest hg qd_bb0 ⟨qd_in (by decide) (by omega), nm_r (qd_wr0 (by omega) ?_) (nm_r (nI_1 k) (hw _ ?_))⟩
    · rw [h23, qd_mon e]
    · rw [if_pos (by omega)]
/-- timesUnknown(23, 24) modulo x -/
theorem qd_times {q : Int64} (hg : qd_gd mo) (hq : qd_b q) (h23 : M 23 = qd_mo q 0) (h24 : M 24 = qd_mo 1 1)
    (H : ∀ N : Nat → Nat → Int64, N 23 = qd_mo 0 0 → (∀ s, s ≠ 23 → N s = M s) → post (fc, mo, pr, lc, dc, qd_un N, a2, a3, a4, a5, a6)) : wpX_timesUnknown post (fc, mo, pr, lc, dc, qd_un M, a2, a3, a4, a5, a6) (nI 23) (nI 24) := by
  unfold wpX_timesUnknown
  refine qd_deg 24 1 (by decide) (by decide) (by decide) h24 ⟨2, ?_⟩
  refine br_f (by decide) ?_
  rw [show ((12 * nI 23) + nI 1) - 1 = nI (12 * 23 + 0) by decide, nI_clamp (by decide), qd_cl (s := 23) (by decide) (by decide), qd_rd (by decide), h23, qd_mos]
  refine ⟨vp_in_nI (by decide) (by decide), qd_in (by decide) (by decide), nm_r (qd_wr (by decide)) (nm_r (show nI 1 + (-1) = 0 by decide) ?_)⟩
  refine br_t (by decide) ?_
  rw [show 12 * nI 23 = nI (12 * 23 + 0) by decide, nI_clamp (by decide)]
  have E : vp_updL (qd_un (qd_up M 23 (vp_updL (M 23) 1 q))) (12 * 23 + 0) 0 = qd_un (qd_up M 23 (qd_mo q 1)) := by
    rw [qd_wr (by decide)]
    apply qd_ext
    intro t j hj
    by_cases g : t = 23
    · rw [g, qd_ups, qd_ups, qd_ups, h23]
      by_cases g0 : j = 0
      · rw [g0, pk_uLs, qd_mon (by decide)]
      · rw [pk_uLn g0]
        by_cases g1 : j = 1
        · rw [g1, pk_uLs, qd_mos]
        · rw [pk_uLn g1, qd_mon g0, qd_mon g1]
    · rw [qd_upn g, qd_upn g, qd_upn g]
  refine ⟨vp_in_nI (by decide) (by decide), nm_r E ⟨pk_in (12 * 23 + 1) 312 (by decide) (by decide), nm_r (e' := q) ?_ ?_⟩⟩
  · rw [show (nI (12 * 23 + 0) + nI 1).toNatClampNeg = 12 * 23 + 1 by decide, qd_rd (by decide), qd_ups, qd_mos]
  · refine qd_tu72 hg hq qd_ups (by rw [qd_upn (by decide), h24]) ?_
    refine H _ (by rw [qd_ups, qd_mo0]) ?_
    intro s h
    rw [qd_upn h, qd_upn h]
theorem qd_fm72 {J : Int32 → Int32 → Int64 → Int64 → Int32 → Int32 → (Nat → Int64) → (Nat → Int32) → (Nat → Int64) → (Nat → Int32) → (Nat → Int32) → (Nat → Int32) → Prop}
    (h23 : M 23 = qd_mo 1 0) (h24 : M 24 = qd_mo 1 1)
    (H : ∀ N : Nat → Nat → Int64, (∀ s, s ≠ 23 → N s = M s) → J (0 + 1) fc 3 3 lc dc (qd_un N) a2 a3 a4 a5 a6) :
    ∃ n, wX_fillMatrix_72 post J (nI 1) 0 n 0 fc 3 3 lc dc (qd_un M) a2 a3 a4 a5 a6 := by
  refine ⟨4, ?_⟩
  refine br_f (by decide) (qd_times qd_gd3 qd_b1 h23 h24 (fun A A23 AF => nm_e ?_))
  refine br_f (by decide) (qd_times qd_gd3 qd_bb0 A23 (by rw [AF 24 (by decide), h24]) (fun B B23 BF => nm_e ?_))
  refine br_f (by decide) (qd_times qd_gd3 qd_bb0 B23 (by rw [BF 24 (by decide), AF 24 (by decide), h24]) (fun C C23 CF => nm_e ?_))
  refine br_t (by decide) (nm_e (H C ?_))
  intro s h
  rw [CF s h, BF s h, AF s h]
/-- fillMatrix for x: one place, and it is 0 -/
theorem qd_fill (h24 : M 24 = qd_mo 1 1) (H : ∀ N : Nat → Nat → Int64, (∀ s, s ≠ 23 → N s = M s) → post (fc, 3, 3, lc, dc, qd_un N, a2, (vp_updL a3 0 0), a4, a5, a6)) : wpX_fillMatrix post (fc, 3, 3, lc, dc, qd_un M, a2, a3, a4, a5, a6) (nI 1) := by
  unfold wpX_fillMatrix
  refine qd_clear 23 (by decide) ?_
  refine nm_r (qd_wr (s := 23) (k := 0) (by decide)) ⟨2, ?_⟩
  have B23 : qd_up (qd_up M 23 qd_z) 23 (vp_updL (qd_up M 23 qd_z 23) 0 1) 23 = qd_mo 1 0 := by rw [qd_ups, qd_ups]; rfl
  have BF : ∀ s, s ≠ 23 → qd_up (qd_up M 23 qd_z) 23 (vp_updL (qd_up M 23 qd_z 23) 0 1) s = M s := fun s h => by rw [qd_upn h, qd_upn h]
  generalize qd_up (qd_up M 23 qd_z) 23 (vp_updL (qd_up M 23 qd_z 23) 0 1) = B at B23 BF ⊢
  refine br_f (by decide) ⟨2, ?_⟩
  refine br_f (by decide) ⟨pk_in 276 312 (by decide) (by decide), br_t rfl ?_⟩
  unfold wX_fillMatrix_59
  rw [show ((276 : Int32) + 0).toNatClampNeg = 12 * 23 + 0 by decide, qd_rd (by decide), B23, qd_mos, Int64.sub_self]
  refine qd_rest qd_gd3 qd_bb0 ⟨pk_in 0 25 (by decide) (by decide), nm_r (e' := vp_updL a3 0 0) rfl (nm_e ?_)⟩
  refine br_t (by decide) ?_
  refine qd_fm72 B23 (by rw [BF 24 (by decide), h24]) ?_
  intro N NF
  refine br_t (by decide) (H N ?_)
  intro s h
  rw [NF s h, BF s h]
theorem qd_elim (h3 : a3 0 = 0) (H : ∀ b4 : Nat → Int32, pB 0 (fc, mo, pr, lc, dc, qd_un M, a2, a3, b4, a5, a6)) : wpX_eliminate pB (fc, mo, pr, lc, dc, qd_un M, a2, a3, a4, a5, a6) (nI 1) := by
  unfold wpX_eliminate
  refine ⟨2, br_f (by decide) ⟨pk_in 0 5 (by decide) (by decide), nm_e ⟨2, ?_⟩⟩⟩
  refine br_f (by decide) ⟨pk_in 0 25 (by decide) (by decide), br_t ?_ (nm_e ?_)⟩
  · rw [show (((5 : Int32) * 0) + 0).toNatClampNeg = 0 by decide, h3]
  · refine br_t (by decide) ?_
    unfold wX_eliminate_47
    refine br_t (by decide) (nm_e ?_)
    exact br_t (by decide) (H _)
/-- splitModulo for x: one piece -/
theorem qd_splitM (h5 : M 5 = qd_mo 1 1) (H : ∀ (N : Nat → Nat → Int64) (b3 : Nat → Int64) (b4 : Nat → Int32), (∀ s, s < 6 → N s = M s) → post (fc, 3, 3, 1, dc, qd_un N, a2, b3, b4, a5, a6)) : wpX_splitModulo post (fc, 3, 3, lc, dc, qd_un M, a2, a3, a4, a5, a6) := by
  unfold wpX_splitModulo
  refine qd_copy 11 5 (by decide) (by decide) ?_
  have A11 : qd_up M 11 (M 5) 11 = qd_mo 1 1 := by rw [qd_ups, h5]
  have AF : ∀ s, s < 6 → qd_up M 11 (M 5) s = M s := fun s h => by rw [qd_upn (by omega)]
  generalize qd_up M 11 (M 5) = A at A11 AF ⊢
  refine qd_reduce 11 (by decide) qd_gd3 (by rw [A11]; exact qd_bmo qd_b1) ?_
  refine qd_monic 11 1 (by decide) (by decide) qd_gd3 qd_gd3 A11 ?_
  refine qd_deg 11 1 (by decide) (by decide) (by decide) A11 ?_
  refine qd_copy 24 11 (by decide) (by decide) ?_
  refine qd_fill (by rw [qd_ups, A11]) ?_
  intro N NF
  refine qd_elim (by rfl) ?_
  intro b4
  refine nm_e ⟨1, br_t (by decide) (H N _ b4 ?_)⟩
  intro s h
  rw [NF s (by omega), qd_upn (by omega), AF s h]
theorem qd_monicM (h11 : M 11 = qd_mo 1 1) (H : post (fc, 177147, 3, lc, dc, qd_un M, a2, a3, a4, a5, a6)) : wpX_monicModulo post (fc, mo, 3, lc, dc, qd_un M, a2, a3, a4, a5, a6) (nI 11) 177147 := by
  unfold wpX_monicModulo
  refine qd_lead 11 1 (by decide) (by decide) (by decide) h11 ?_
  refine qd_inv qd_gd3 ?_
  have hb : ∀ k, qd_b (M 11 k) := by rw [h11]; exact qd_bmo qd_b1
  refine pk_loop (σ := Unit) (fun n k _ => wX_monicModulo_31 post (nI 11) 177147 1 fc 177147 3 lc dc (qd_un M) a2 a3 a4 a5 a6 n 1 (nI k)) (fun _ _ => True) 20 0 () (by omega) trivial
    (fun n _ _ => pk_le 20 20 (fun _ => ?_) (fun z => absurd z (by omega)))
    (fun n k _ hk _ hw => pk_le 20 k (fun z => absurd z (by omega)) (fun _ => ⟨by decide, nm_r (show ((1 : Int64) * 1) - (1 * 1) / 177147 * 177147 = 1 by decide) ?_⟩))
  · refine qd_reduce 11 (by decide) qd_gdt hb ?_
    exact qd_scale 11 (by decide) qd_gdt hb H
  · rw [show (2 : Int64) - 1 = 1 by decide]
    exact qd_rest qd_gdt qd_b1 ⟨by decide, nm_r (show ((1 : Int64) * 1) - (1 * 1) / 177147 * 177147 = 1 by decide) (nm_r (nI_1 k) (hw () trivial))⟩
theorem qd_la39 (h22 : M 22 = qd_mo 1 1) (H : ∀ N : Nat → Nat → Int64, (∀ s, s < 6 → N s = M s) → post (fc, 177147, 3, 1, dc, qd_un N, a2, a3, a4, a5, a6)) :
    ∃ n, wX_liftAll_39 post 1 177147 n 0 fc mo 3 1 dc (qd_un M) a2 a3 a4 a5 a6 := by
  refine ⟨1, br_t (by decide) ?_⟩
  rw [show ((11 : Int32) + 1) - 1 = nI 11 by decide]
  refine qd_copy 11 22 (by decide) (by decide) ?_
  dsimp only
  rw [show ((11 : Int32) + 1) - 1 = nI 11 by decide]
  refine qd_monicM (by rw [qd_ups, h22]) ?_
  refine H (qd_up M 11 (M 22)) ?_
  intro s h
  rw [qd_upn (by omega)]
theorem qd_lift (h5 : M 5 = qd_mo 1 1) (H : ∀ N : Nat → Nat → Int64, (∀ s, s < 6 → N s = M s) → post (fc, 177147, 3, 1, dc, qd_un N, a2, a3, a4, a5, a6)) : wpX_liftAll post (fc, mo, 3, 1, dc, qd_un M, a2, a3, a4, a5, a6) := by
  unfold wpX_liftAll
  refine qd_copy 22 5 (by decide) (by decide) ?_
  refine qd_lead (c := 1) 5 1 (by decide) (by decide) (by decide) (by rw [qd_upn (by decide), h5]) ⟨11, ?_⟩
  refine br_f (by decide) (nm_r (show (3 : Int64) * 3 = 9 by decide) ?_)
  refine br_f (by decide) (nm_r (show (9 : Int64) * 3 = 27 by decide) ?_)
  refine br_f (by decide) (nm_r (show (27 : Int64) * 3 = 81 by decide) ?_)
  refine br_f (by decide) (nm_r (show (81 : Int64) * 3 = 243 by decide) ?_)
  refine br_f (by decide) (nm_r (show (243 : Int64) * 3 = 729 by decide) ?_)
  refine br_f (by decide) (nm_r (show (729 : Int64) * 3 = 2187 by decide) ?_)
  refine br_f (by decide) (nm_r (show (2187 : Int64) * 3 = 6561 by decide) ?_)
  refine br_f (by decide) (nm_r (show (6561 : Int64) * 3 = 19683 by decide) ?_)
  refine br_f (by decide) (nm_r (show (19683 : Int64) * 3 = 59049 by decide) ?_)
  refine br_f (by decide) (nm_r (show (59049 : Int64) * 3 = 177147 by decide) ?_)
  refine br_t (by decide) (qd_la39 (by rw [qd_ups, h5]) ?_)
  intro N NF
  refine H N ?_
  intro s h
  rw [NF s h, qd_upn (by omega)]
end
end
section
/-- the factor list: n rows, each x -/
def qd_fl (a2 : Nat → Int32) (n : Nat) : Prop := ∀ k j, k < n → j < 6 → a2 (6 * k + j) = if j = 1 then 1 else 0
section
variable {fc lc dc : Int32} {mo pr : Int64} {M N : Nat → Nat → Int64} {a2 a4 a5 a6 : Nat → Int32} {a3 : Nat → Int64}
variable {post : St2 → Prop} {pB : Int32 → St2 → Prop} {pI : Int32 → Prop} {pL : Int64 → Prop}
theorem qd_ix6 (k j : Nat) : (6 * nI k) + nI j = nI (6 * k + j) := by
  rw [show (6 : Int32) = nI 6 from rfl, pk_mul, nI_add]
theorem qd_cl6 {k j : Nat} (hk : k < 6) (hj : j < 6) : ((6 * nI k) + nI j).toNatClampNeg = 6 * k + j := by
  rw [qd_ix6]; exact nI_clamp (by omega)
theorem qd_in6 {k j : Nat} (hk : k < 6) (hj : j < 6) : vp_in ((6 * nI k) + nI j) 36 := by
  rw [qd_ix6]; exact vp_in_nI (by omega) (by omega)
theorem qd_ones (H : pI 1) : wpX_onesIn pI (fc, mo, pr, lc, dc, qd_un M, a2, a3, a4, a5, a6) 1 := by
  unfold wpX_onesIn
  refine ⟨6, ?_⟩
  refine br_f (by decide) (nm_r (show (0 : Int32) + (((1 : Int32) >>> ((0 : Int32) &&& 31)) &&& 1) = 1 by decide) (nm_r (show (0 : Int32) + 1 = 1 by decide) ?_))
  refine br_f (by decide) (nm_r (show (1 : Int32) + (((1 : Int32) >>> ((1 : Int32) &&& 31)) &&& 1) = 1 by decide) (nm_r (show (1 : Int32) + 1 = 2 by decide) ?_))
  refine br_f (by decide) (nm_r (show (1 : Int32) + (((1 : Int32) >>> ((2 : Int32) &&& 31)) &&& 1) = 1 by decide) (nm_r (show (2 : Int32) + 1 = 3 by decide) ?_))
  refine br_f (by decide) (nm_r (show (1 : Int32) + (((1 : Int32) >>> ((3 : Int32) &&& 31)) &&& 1) = 1 by decide) (nm_r (show (3 : Int32) + 1 = 4 by decide) ?_))
  refine br_f (by decide) (nm_r (show (1 : Int32) + (((1 : Int32) >>> ((4 : Int32) &&& 31)) &&& 1) = 1 by decide) (nm_r (show (4 : Int32) + 1 = 5 by decide) ?_))
  exact br_t (by decide) H
theorem qd_cb51 {k n : Nat} (hk : k < 6) (hkn : k < n) (hf : qd_fl a2 n) (h23 : M 23 = qd_mo 1 1) (H : pI 0) :
    ∃ f, wX_comesBefore_51 pI (nI 23) (nI k) fc mo pr lc dc (qd_un M) a2 a3 a4 a5 a6 f (nI 1) := by
  refine ⟨3, br_f (by decide) ?_⟩
  rw [qd_cl6 hk (by decide), hf k 1 hkn (by decide), qd_cl (s := 23) (by decide) (by decide), qd_rd (by decide), h23, qd_mos]
  refine ⟨qd_in6 hk (by decide), nm_e ⟨qd_in (by decide) (by decide), br_t (by decide) (nm_r (pk_m1 0) ?_)⟩⟩
  refine br_f (by decide) ?_
  rw [qd_cl6 hk (by decide), hf k 0 hkn (by decide), qd_cl (s := 23) (by decide) (by decide), qd_rd (by decide), h23, qd_mon (by decide)]
  refine ⟨qd_in6 hk (by decide), nm_e ⟨qd_in (by decide) (by decide), br_t (by decide) (nm_r qd_m1 ?_)⟩⟩
  exact br_t (by decide) H
theorem qd_cb9 {k n : Nat} (hk : k < 6) (hkn : k < n) (hf : qd_fl a2 n) (h23 : M 23 = qd_mo 1 1) (H : pI 0) (d : Nat) :
    1 + d < 6 → wX_comesBefore_9 pI (nI 23) (nI k) (nI 1) fc mo pr lc dc (qd_un M) a2 a3 a4 a5 a6 (d + 1) (nI (1 + d)) := by
  induction d with
  | zero =>
    intro h
    refine ⟨qd_in6 hk h, br_f ?_ (br_t rfl (qd_cb51 hk hkn hf h23 H))⟩
    rw [qd_cl6 hk h, hf k _ hkn h]
    decide
  | succ d ih =>
    intro h
    refine ⟨qd_in6 hk h, br_t ?_ (nm_r (pk_m1 (1 + d)) (ih (by omega)))⟩
    rw [qd_cl6 hk h, hf k _ hkn h, if_neg (by omega)]
theorem qd_comes (k n : Nat) (hk : k < 6) (hkn : k < n) (hf : qd_fl a2 n) (h23 : M 23 = qd_mo 1 1) (H : pI 0) : wpX_comesBefore pI (fc, mo, pr, lc, dc, qd_un M, a2, a3, a4, a5, a6) (nI 23) (nI k) := by
  unfold wpX_comesBefore
  refine qd_deg 23 1 (by decide) (by decide) (by decide) h23 ⟨5, ?_⟩
  exact qd_cb9 hk hkn hf h23 H 4 (by decide)
theorem qd_if67 {n : Nat} (hn : n < 6) (hf : qd_fl a2 n) (h23 : M 23 = qd_mo 1 1) (H : ∀ b : Nat → Int32, qd_fl b (n + 1) → post (nI (n + 1), mo, pr, lc, dc, qd_un M, b, a3, a4, a5, a6)) :
    ∃ f, wX_insertFactor_67 post (nI 23) (nI n) (nI n) mo pr lc dc f 0 (qd_un M) a2 a3 a4 a5 a6 := by
  refine pk_loop (fun f k b => wX_insertFactor_67 post (nI 23) (nI n) (nI n) mo pr lc dc f (nI k) (qd_un M) b a3 a4 a5 a6)
    (fun k b => (∀ t, t < 6 * n → b t = a2 t) ∧ (∀ j, j < k → b (6 * n + j) = if j = 1 then 1 else 0)) 6 0 a2 (by omega) ⟨fun _ _ => rfl, fun j h => absurd h (by omega)⟩
    (fun f b h => pk_le 6 6 (fun _ => nm_r (nI_1 n) (H b ?_)) (fun z => absurd z (by omega)))
    (fun f k b hk h hw => pk_le 6 k (fun z => absurd z (by omega)) (fun _ => ⟨qd_in (by decide) (by omega), qd_in6 hn hk, nm_e (nm_r (nI_1 k) (hw _ ?_))⟩))
  · intro k j hk hj
    by_cases e : k = n
    · rw [e]; exact h.2 j hj
    · rw [h.1 _ (by omega)]; exact hf k j (by omega) hj
  · rw [qd_cl6 hn hk, qd_cl (s := 23) (by decide) (by omega), qd_rd (by omega), h23]
    refine ⟨fun t ht => ?_, fun j hj => ?_⟩
    · rw [pk_un (by omega)]; exact h.1 t ht
    · by_cases e : j = k
      · rw [e, pk_us]
        by_cases e1 : k = 1
        · rw [e1, qd_mos]; decide
        · rw [qd_mon e1, if_neg e1]; decide
      · rw [pk_un (by omega)]; exact h.2 j (by omega)
/-- insertFactor(23): x goes behind the rows that are there -/
theorem qd_ins (n : Nat) (hn : n < 6) (hf : qd_fl a2 n) (h23 : M 23 = qd_mo 1 1) (H : ∀ b : Nat → Int32, qd_fl b (n + 1) → post (nI (n + 1), mo, pr, lc, dc, qd_un M, b, a3, a4, a5, a6)) :
    wpX_insertFactor post (nI n, mo, pr, lc, dc, qd_un M, a2, a3, a4, a5, a6) (nI 23) := by
  unfold wpX_insertFactor
  refine ⟨1, ?_⟩
  refine pk_le n 0 (fun _ => qd_if67 hn hf h23 H) (fun z => ?_)
  rw [show nI n - 1 = nI (n - 1) from pk_sub (b := 1) (by omega)]
  exact qd_comes (n - 1) n (by omega) (by omega) hf h23 (br_t rfl (qd_if67 hn hf h23 H))
theorem qd_af7 (m : Nat) : ∀ (n : Nat) (M : Nat → Nat → Int64) (a2 : Nat → Int32), n + m < 6 → M 4 = qd_mo 1 m → M 23 = qd_mo 1 1 → qd_fl a2 n →
    (∀ (N : Nat → Nat → Int64) (b : Nat → Int32), (∀ s, s < 4 → N s = M s) → qd_fl b (n + m) → post (nI (n + m), mo, pr, lc, dc, qd_un N, b, a3, a4, a5, a6)) →
    wX_addFactor_7 post (m + 1) (nI n) mo pr lc dc (qd_un M) a2 a3 a4 a5 a6 := by
  induction m with
  | zero =>
    intro n M a2 hn h4 h23 hf H
    refine qd_div01 4 23 (by decide) (by decide) (by decide) (by decide) h4 h23 ?_
    intro N NF
    refine br_t rfl (H N a2 ?_ hf)
    intro s h
    exact NF s (by omega) (by omega)
  | succ m ih =>
    intro n M a2 hn h4 h23 hf H
    refine qd_div 4 23 (m + 1) 1 (by decide) (by decide) (by decide) (by decide) (by omega) (by omega) h4 h23 ?_
    intro N N9 NF
    refine br_f (by decide) ?_
    refine qd_copy 4 9 (by decide) (by decide) ?_
    refine qd_ins n (by omega) hf (by rw [qd_upn (by decide), NF 23 (by decide) (by decide), h23]) ?_
    intro b hb
    refine ih (n + 1) _ b (by omega) ?_ ?_ hb ?_
    · rw [qd_ups, N9]; rfl
    · rw [qd_upn (by decide), NF 23 (by decide) (by decide), h23]
    · intro K b' KF hb'
      rw [show n + 1 + m = n + (m + 1) by omega] at hb' ⊢
      refine H K b' ?_ hb'
      intro s h
      rw [KF s h, qd_upn (by omega), NF s (by omega) (by omega)]
theorem qd_addF (m : Nat) (hm : m < 6) (h4 : M 4 = qd_mo 1 m) (h5 : M 5 = qd_mo 1 1)
    (H : ∀ (N : Nat → Nat → Int64) (b : Nat → Int32), (∀ s, s < 4 → N s = M s) → qd_fl b m → post (nI m, mo, pr, lc, dc, qd_un N, b, a3, a4, a5, a6)) : wpX_addFactor post (0, mo, pr, lc, dc, qd_un M, a2, a3, a4, a5, a6) 5 := by
  unfold wpX_addFactor
  refine qd_copy 23 5 (by decide) (by decide) ?_
  refine ⟨m + 1, ?_⟩
  refine qd_af7 m 0 _ a2 (by omega) (by rw [qd_upn (by decide), h4]) (by rw [qd_ups, h5]) (fun k j hk => absurd hk (by omega)) ?_
  intro N b NF hb
  rw [Nat.zero_add] at hb ⊢
  refine H N b ?_ hb
  intro s h
  rw [NF s h, qd_upn (by omega)]
theorem qd_recomb (m : Nat) (hm : m < 6) (h4 : M 4 = qd_mo 1 m) (h5 : M 5 = qd_mo 1 1)
    (H : ∀ (N : Nat → Nat → Int64) (b : Nat → Int32), (∀ s, s < 4 → N s = M s) → qd_fl b m → post (nI m, mo, pr, 1, dc, qd_un N, b, a3, a4, a5, a6)) : wpX_recombine post (0, mo, pr, 1, dc, qd_un M, a2, a3, a4, a5, a6) := by
  unfold wpX_recombine
  refine nm_r (show ((1 : Int32) <<< ((1 : Int32) &&& 31)) - 1 = 1 by decide) ⟨1, ?_⟩
  refine qd_ones (br_t (by decide) ?_)
  refine qd_deg 5 1 (by decide) (by decide) (by decide) h5 (br_f (by decide) ?_)
  exact qd_addF m hm h4 h5 H
/-- findFactors of c x^i: i times x; the registers stay -/
theorem qd_ff {c ab : Int64} (r i : Nat) (hr : r < 4) (h1 : 0 < i) (hi : i < 6) (hc : qd_sm c ab) (hm : M r = qd_mo c i)
    (H : ∀ (N : Nat → Nat → Int64) (m' p' : Int64) (l' : Int32) (b2 : Nat → Int32) (b3 : Nat → Int64) (b4 : Nat → Int32), (∀ s, s < 4 → N s = M s) → qd_fl b2 i → post (nI i, m', p', l', dc, qd_un N, b2, b3, b4, a5, a6)) :
    wpX_findFactors post (fc, mo, pr, lc, dc, qd_un M, a2, a3, a4, a5, a6) (nI r) := by
  unfold wpX_findFactors
  refine qd_deg r i (by omega) (by omega) hc.1 hm (br_t (nI_le (a := 1) h1 (by omega)) ?_)
  refine qd_copy 4 r (by decide) (by omega) ?_
  refine qd_prim 4 i (by decide) (by omega) hc (by rw [qd_ups, hm]) ?_
  refine qd_split i h1 hi qd_ups ?_
  intro A A5 AF
  refine qd_choose A5 ?_
  intro B BF
  have B5 : B 5 = qd_mo 1 1 := by rw [BF 5 (by decide), A5]
  refine qd_splitM B5 ?_
  intro C b3 b4 CF
  have C5 : C 5 = qd_mo 1 1 := by rw [CF 5 (by decide), B5]
  refine qd_lift C5 ?_
  intro D DF
  have D5 : D 5 = qd_mo 1 1 := by rw [DF 5 (by decide), C5]
  have D4 : D 4 = qd_mo 1 i := by rw [DF 4 (by decide), CF 4 (by decide), BF 4 (by decide), AF 4 (by decide), qd_ups]
  refine qd_recomb i hi D4 D5 ?_
  intro E b2 EF hb
  refine H E _ _ _ b2 b3 b4 ?_ hb
  intro s h
  rw [EF s h, DF s (by omega), CF s (by omega), BF s (by omega), AF s (by omega), qd_upn (by omega), qd_upn (by omega)]
theorem qd_ff0 {c : Int64} (r : Nat) (hr : r < 4) (hc : ¬ c = 0) (hm : M r = qd_mo c 0) (H : post (0, mo, pr, lc, dc, qd_un M, a2, a3, a4, a5, a6)) : wpX_findFactors post (fc, mo, pr, lc, dc, qd_un M, a2, a3, a4, a5, a6) (nI r) := by
  unfold wpX_findFactors
  exact qd_deg r 0 (by omega) (by decide) hc hm (br_f (by decide) H)
theorem qd_ffz (r : Nat) (hr : r < 4) (hm : M r = qd_z) (H : post (0, mo, pr, lc, dc, qd_un M, a2, a3, a4, a5, a6)) : wpX_findFactors post (fc, mo, pr, lc, dc, qd_un M, a2, a3, a4, a5, a6) (nI r) := by
  unfold wpX_findFactors
  exact qd_deg0 r (by omega) hm (br_f (by decide) H)
end
end
section
/-- Horner, and how many x leave the rest 0 -/
def qd_ho (p : Nat → Int64) (x : Int64) : Nat → Int64 → Int64
  | 0, s => s
  | n + 1, s => qd_ho p x n (s * x + p n)
def qd_ct (p : Nat → Int64) (P : Nat) : Nat → Int32
  | 0 => 0
  | n + 1 => if qd_ho p (nI n).toInt64 6 0 - qd_ho p (nI n).toInt64 6 0 / (nI P).toInt64 * (nI P).toInt64 = 0 then qd_ct p P n + 1 else qd_ct p P n
abbrev qd_ctP (P : Nat) : Prop := ∀ i, i < 6 → ∀ j, j < 41 → qd_ct (qd_mo (qd_c j).toInt64 i) P P = if qd_c j - qd_c j / nI P * nI P = 0 then nI P else if i = 0 then 0 else 1
theorem qd_ct2 : qd_ctP 2 := by decide +kernel
theorem qd_ct3 : qd_ctP 3 := by decide +kernel
theorem qd_ct5 : qd_ctP 5 := by decide +kernel
theorem qd_ct7 : qd_ctP 7 := by decide +kernel
theorem qd_ctz2 : qd_ct qd_z 2 2 = 2 := by decide +kernel
theorem qd_ctz3 : qd_ct qd_z 3 3 = 3 := by decide +kernel
theorem qd_ctz5 : qd_ct qd_z 5 5 = 5 := by decide +kernel
theorem qd_ctz7 : qd_ct qd_z 7 7 = 7 := by decide +kernel
/-- the ints that are registers, the small primes -/
def qd_nr (x : Int32) : Prop := x < 0 ∨ 3 < x
def qd_sp (x : Int32) : Prop := x = 2 ∨ x = 3 ∨ x = 5 ∨ x = 7
theorem qd_reg4 (x : Int32) : qd_nr x ∨ ∃ r : Nat, r < 4 ∧ x = nI r := by
  by_cases h0 : x < 0
  · exact Or.inl (Or.inl h0)
  · by_cases h3 : 3 < x
    · exact Or.inl (Or.inr h3)
    · obtain ⟨j, hj, e⟩ := nI_of2 (x := x) (M := 3) (n := 3) (by decide) h0 (Int32.not_lt.mp h3)
      exact Or.inr ⟨j, by omega, e⟩
theorem qd_cof {x : Int32} (h1 : ¬ x < (-20)) (h2 : ¬ 20 < x) : ∃ j : Nat, j < 41 ∧ x = qd_c j := by
  rw [Int32.lt_iff_toInt_lt, show (-20 : Int32).toInt = -20 by decide] at h1
  rw [Int32.lt_iff_toInt_lt, show (20 : Int32).toInt = 20 by decide] at h2
  refine ⟨(x.toInt + 20).toNat, by omega, ?_⟩
  apply Int32.toInt_inj.mp
  show x.toInt = (nI (x.toInt + 20).toNat - nI 20).toInt
  rw [pk_sub_toInt (by omega) (by omega)]
  omega
section
variable {fc lc dc : Int32} {mo pr : Int64} {M N : Nat → Nat → Int64} {a2 a4 a5 a6 : Nat → Int32} {a3 : Nat → Int64}
variable {post : St2 → Prop} {pB : Int32 → St2 → Prop} {pI : Int32 → Prop} {pL : Int64 → Prop}
theorem qd_isR (r : Nat) (hr : r < 4) (H : pI 1) : wpX_isRegister pI (fc, mo, pr, lc, dc, qd_un M, a2, a3, a4, a5, a6) (nI r) := by
  unfold wpX_isRegister
  exact br_f (nI_pos (by omega)) (br_f (nI_nlt (b := r) (a := 3) (by omega) (by omega)) H)
theorem qd_isN {x : Int32} (hx : qd_nr x) (H : pI 0) : wpX_isRegister pI (fc, mo, pr, lc, dc, qd_un M, a2, a3, a4, a5, a6) x := by
  unfold wpX_isRegister
  by_cases h : x < 0
  · exact br_t h H
  · rcases hx with g | g
    · exact absurd g h
    · exact br_f h (br_t g H)
theorem qd_at29 {r : Nat} {x : Int32} (hr : r < 26) (d : Nat) : ∀ s : Int64, d < 12 → pL (qd_ho (M r) x.toInt64 (d + 1) s) → wX_at_29 pL (nI r) x fc mo pr lc dc (qd_un M) a2 a3 a4 a5 a6 (d + 2) s (nI d) := by
  induction d with
  | zero =>
    intro s h H
    refine br_f (nI_pos (by omega)) ⟨qd_in hr h, ?_⟩
    rw [qd_cl hr h, qd_rd h]
    exact nm_e (nm_r qd_m1 (br_t (by decide) H))
  | succ d ih =>
    intro s h H
    refine br_f (nI_pos (by omega)) ⟨qd_in hr h, ?_⟩
    rw [qd_cl hr h, qd_rd h]
    exact nm_e (nm_r (pk_m1 d) (ih _ (by omega) H))
theorem qd_x7 : ∀ x, x < 7 → ¬ nI x < (-1000) ∧ nI x ≤ 1000 := by decide
theorem qd_at (r x : Nat) (hr : r < 4) (hx : x < 7) (H : pL (qd_ho (M r) (nI x).toInt64 6 0)) : wpX_at pL (fc, mo, pr, lc, dc, qd_un M, a2, a3, a4, a5, a6) (nI r) (nI x) := by
  unfold wpX_at
  refine qd_isR r hr (br_f (by decide) (br_f (qd_x7 x hx).1 (br_t (qd_x7 x hx).2 ⟨7, ?_⟩)))
  exact qd_at29 (by omega) 5 0 (by decide) H
theorem qd_roots (r P : Nat) (hr : r < 4) (hP : P = 2 ∨ P = 3 ∨ P = 5 ∨ P = 7) (H : pI (qd_ct (M r) P P)) : wpX_rootsModulo pI (fc, mo, pr, lc, dc, qd_un M, a2, a3, a4, a5, a6) (nI r) (nI P) := by
  unfold wpX_rootsModulo
  refine qd_isR r hr (br_f (by decide) ?_)
  have hs : ∀ q : Int32 → Prop, q 1 → wpX_isSmallPrime q (fc, mo, pr, lc, dc, qd_un M, a2, a3, a4, a5, a6) (nI P) := by
    intro q hq
    unfold wpX_isSmallPrime
    rcases hP with rfl | rfl | rfl | rfl
    · exact br_t (by decide) hq
    · exact br_f (by decide) (br_t (by decide) hq)
    · exact br_f (by decide) (br_f (by decide) (br_t (by decide) hq))
    · exact br_f (by decide) (br_f (by decide) (br_f (by decide) (br_t (by decide) hq)))
  have h0 : ¬ (nI P).toInt64 = 0 := by rcases hP with rfl | rfl | rfl | rfl <;> decide
  have h7 : P < 8 := by omega
  refine hs _ (br_f (by decide) ?_)
  refine pk_loop (fun n k x => wX_rootsModulo_25 pI (nI r) (nI P) fc mo pr lc dc (qd_un M) a2 a3 a4 a5 a6 n x (nI k)) (fun k x => x = qd_ct (M r) P k) P 0 0 (by omega) rfl
    (fun n x h => pk_le P P (fun _ => by rw [h]; exact H) (fun z => absurd z (by omega)))
    (fun n k x hk h hw => pk_le P k (fun z => absurd z (by omega)) (fun _ => qd_at r k hr (by omega) ⟨h0, br_c (fun g => nm_e (nm_r (nI_1 k) (hw _ ?_))) (fun g => nm_r (nI_1 k) (hw _ ?_))⟩))
  · rw [h]; exact (if_pos g).symm
  · rw [h]; exact (if_neg g).symm
theorem qd_rootsN {x y : Int32} (hx : qd_nr x) (H : pI (-1000)) : wpX_rootsModulo pI (fc, mo, pr, lc, dc, qd_un M, a2, a3, a4, a5, a6) x y := by
  unfold wpX_rootsModulo
  exact qd_isN hx (br_t rfl H)
theorem qd_rootsP {y : Int32} (r : Nat) (hr : r < 4) (hy : ¬ qd_sp y) (H : pI (-1000)) : wpX_rootsModulo pI (fc, mo, pr, lc, dc, qd_un M, a2, a3, a4, a5, a6) (nI r) y := by
  unfold wpX_rootsModulo
  refine qd_isR r hr (br_f (by decide) ?_)
  unfold wpX_isSmallPrime
  exact br_f (fun h => hy (Or.inl h)) (br_f (fun h => hy (Or.inr (Or.inl h))) (br_f (fun h => hy (Or.inr (Or.inr (Or.inl h)))) (br_f (fun h => hy (Or.inr (Or.inr (Or.inr h)))) (br_t rfl H))))
theorem qd_rootsZ {y : Int32} (r : Nat) (hr : r < 4) (hy : qd_sp y) (hz : M r = qd_z) (H : pI y) : wpX_rootsModulo pI (fc, mo, pr, lc, dc, qd_un M, a2, a3, a4, a5, a6) (nI r) y := by
  rcases hy with rfl | rfl | rfl | rfl
  · exact qd_roots r 2 hr (by decide) (by rw [hz, qd_ctz2]; exact H)
  · exact qd_roots r 3 hr (by decide) (by rw [hz, qd_ctz3]; exact H)
  · exact qd_roots r 5 hr (by decide) (by rw [hz, qd_ctz5]; exact H)
  · exact qd_roots r 7 hr (by decide) (by rw [hz, qd_ctz7]; exact H)
theorem qd_rootsC {y : Int32} (r i j : Nat) (hr : r < 4) (hi : i < 6) (hj : j < 41) (hy : qd_sp y) (hm : M r = qd_mo (qd_c j).toInt64 i)
    (H0 : qd_c j - qd_c j / y * y = 0 → pI y) (H1 : ¬ qd_c j - qd_c j / y * y = 0 → i = 0 → pI 0) (H2 : ¬ qd_c j - qd_c j / y * y = 0 → ¬ i = 0 → pI 1) : wpX_rootsModulo pI (fc, mo, pr, lc, dc, qd_un M, a2, a3, a4, a5, a6) (nI r) y := by
  have K : ∀ P : Nat, (P = 2 ∨ P = 3 ∨ P = 5 ∨ P = 7) → qd_ctP P → (nI P = y) → wpX_rootsModulo pI (fc, mo, pr, lc, dc, qd_un M, a2, a3, a4, a5, a6) (nI r) (nI P) := by
    intro P hP hc e
    refine qd_roots r P hr hP ?_
    rw [hm, hc i hi j hj, e]
    by_cases g : qd_c j - qd_c j / y * y = 0
    · rw [if_pos g]; exact H0 g
    · rw [if_neg g]
      by_cases g2 : i = 0
      · rw [if_pos g2]; exact H1 g g2
      · rw [if_neg g2]; exact H2 g g2
  rcases hy with rfl | rfl | rfl | rfl
  · exact K 2 (by decide) qd_ct2 rfl
  · exact K 3 (by decide) qd_ct3 rfl
  · exact K 5 (by decide) qd_ct5 rfl
  · exact K 7 (by decide) qd_ct7 rfl
theorem qd_load (k n : Nat) (hk : k < 6) (hkn : k < n) (hf : qd_fl a2 n) (H : ∀ N : Nat → Nat → Int64, N 6 = qd_mo 1 1 → post (fc, mo, pr, lc, dc, qd_un N, a2, a3, a4, a5, a6)) : wpX_loadFactor post (fc, mo, pr, lc, dc, qd_un M, a2, a3, a4, a5, a6) (nI 6) (nI k) := by
  unfold wpX_loadFactor
  refine qd_clear 6 (by decide) ?_
  have A6 : qd_up M 6 qd_z 6 = qd_z := qd_ups
  generalize qd_up M 6 qd_z = A at A6 ⊢
  refine pk_loop (fun n j a => wX_loadFactor_7 post (nI 6) (nI k) fc mo pr lc dc n (nI j) a a2 a3 a4 a5 a6) (fun j a => a = qd_pt A 6 (qd_mo 1 1) j) 6 0 (qd_un A) (by omega) qd_pt0.symm
    (fun n a h => pk_le 6 6 (fun _ => ?_) (fun z => absurd z (by omega)))
    (fun n j a hj h hw => pk_le 6 j (fun z => absurd z (by omega)) (fun _ => ⟨qd_in6 hk hj, qd_in (by decide) (by omega), nm_r ?_ (nm_r (nI_1 j) (hw _ rfl))⟩))
  · have E : qd_pt A 6 (qd_mo 1 1) 6 = qd_un (qd_up A 6 (qd_mo 1 1)) := by
      apply qd_ext
      intro t u hu
      by_cases g : t = 6
      · rw [g, qd_ups, qd_ups]
        by_cases g2 : u < 6
        · rw [if_pos g2]
        · rw [if_neg g2, A6, qd_mon (by omega)]; rfl
      · rw [qd_upn g, qd_upn g]
    rw [h, E]
    exact H _ qd_ups
  · rw [qd_cl6 hk hj, qd_cl (s := 6) (by decide) (by omega), hf k j hkn hj, h]
    refine qd_ptw (by omega) ?_
    by_cases g : j = 1
    · rw [g, qd_mos]; decide
    · rw [qd_mon g, if_neg g]; decide
theorem qd_keep (d : Nat) (hd : d < 4) (h6 : M 6 = qd_mo 1 1) (H : ∀ N : Nat → Nat → Int64, pB 1 (fc, mo, pr, lc, dc, qd_un N, a2, a3, a4, a5, a6)) : wpX_keep pB (fc, mo, pr, lc, dc, qd_un M, a2, a3, a4, a5, a6) (nI d) (nI 6) := by
  unfold wpX_keep
  refine qd_deg 6 1 (by decide) (by decide) (by decide) h6 (br_t (by decide) ⟨3, ?_⟩)
  refine br_f (by decide) ?_
  have e0 : qd_un M ((12 * nI 6) + 0).toNatClampNeg = 0 := by
    rw [show ((12 * nI 6) + 0).toNatClampNeg = 12 * 6 + 0 by decide, qd_rd (by decide), h6]; rfl
  have e1 : qd_un M ((12 * nI 6) + 1).toNatClampNeg = 1 := by
    rw [show ((12 * nI 6) + 1).toNatClampNeg = 12 * 6 + 1 by decide, qd_rd (by decide), h6]; rfl
  rw [e0]
  refine ⟨qd_in (i := 0) (by decide) (by decide), br_f (by decide) ⟨qd_in (i := 0) (by decide) (by decide), br_t (by decide) (nm_r (show (0 : Int32) + 1 = 1 by decide) ?_)⟩⟩
  refine br_f (by decide) ?_
  rw [e1]
  refine ⟨qd_in (i := 1) (by decide) (by decide), br_f (by decide) ⟨qd_in (i := 1) (by decide) (by decide), br_t (by decide) (nm_r (show (1 : Int32) + 1 = 2 by decide) ?_)⟩⟩
  refine br_t (by decide) ?_
  exact qd_copy d 6 (by omega) (by decide) (H _)
theorem qd_facA {x y z : Int32} (hy : qd_nr y) (H : ∀ u, pB (-1000) u) : wpX_factor pB (fc, mo, pr, lc, dc, qd_un M, a2, a3, a4, a5, a6) x y z := by
  unfold wpX_factor
  rcases qd_reg4 x with h | ⟨d, hd, rfl⟩
  · exact qd_isN h (br_t rfl (H _))
  · exact qd_isR d hd (br_f (by decide) (qd_isN hy (br_t rfl (H _))))
theorem qd_facZ {x z : Int32} (r : Nat) (hr : r < 4) (hm : M r = qd_z) (H0 : qd_nr x → ∀ u, pB (-1000) u) (H1 : ∀ d, d < 4 → x = nI d → ∀ u, pB (-1002) u) : wpX_factor pB (fc, mo, pr, lc, dc, qd_un M, a2, a3, a4, a5, a6) x (nI r) z := by
  unfold wpX_factor
  rcases qd_reg4 x with h | ⟨d, hd, e⟩
  · exact qd_isN h (br_t rfl (H0 h _))
  · have H := H1 d hd e
    rw [e]
    refine qd_isR d hd (br_f (by decide) (qd_isR r hr (br_f (by decide) (qd_ffz r hr hm ?_))))
    exact br_c (fun _ => H _) (fun g => br_f g (H _))
theorem qd_facC {c ab : Int64} {x z : Int32} (r i : Nat) (hr : r < 4) (hi : i < 6) (hc : qd_sm c ab) (hm : M r = qd_mo c i) (H0 : qd_nr x → ∀ u, pB (-1000) u)
    (H1 : ∀ d, d < 4 → x = nI d → (z < 0 ∨ nI i ≤ z) → ∀ u, pB (-1002) u) (H2 : ∀ d, d < 4 → x = nI d → ¬ z < 0 → ¬ nI i ≤ z → ∀ u, pB 1 u) : wpX_factor pB (fc, mo, pr, lc, dc, qd_un M, a2, a3, a4, a5, a6) x (nI r) z := by
  unfold wpX_factor
  rcases qd_reg4 x with h | ⟨d, hd, e⟩
  · exact qd_isN h (br_t rfl (H0 h _))
  · have H := H1 d hd e
    have G := H2 d hd e
    rw [e]
    refine qd_isR d hd (br_f (by decide) (qd_isR r hr (br_f (by decide) ?_)))
    rcases Nat.eq_zero_or_pos i with e0 | e0
    · rw [e0] at hm H
      refine qd_ff0 r hr hc.1 hm ?_
      exact br_c (fun g => H (Or.inl g) _) (fun g => br_f g (H (Or.inr (Int32.not_lt.mp g)) _))
    · refine qd_ff r i hr e0 hi hc hm ?_
      intro N m' p' l' b2 b3 b4 NF hf
      refine br_c (fun g => H (Or.inl g) _) (fun g => br_c (fun g2 => ?_) (fun g2 => H (Or.inr (Int32.not_lt.mp g2)) _))
      obtain ⟨k, hk, ek⟩ := nI_of g
      have hki : k < i := by rw [ek] at g2; exact (nI_ltI hk (by omega)).mp g2
      have G' := G g (by rw [Int32.not_le]; exact g2)
      rw [ek]
      refine qd_load k i (by omega) hki hf ?_
      intro K K6
      exact qd_keep d hd K6 (fun L => G' _)
theorem qd_setN {x y z : Int32} (hx : qd_nr x) (H : pB 0 (fc, mo, pr, lc, dc, qd_un M, a2, a3, a4, a5, a6)) : wpX_set pB (fc, mo, pr, lc, dc, qd_un M, a2, a3, a4, a5, a6) x y z := by
  unfold wpX_set
  exact qd_isN hx (br_t rfl H)
theorem qd_setU {y z : Int32} (r : Nat) (hr : r < 4) (hu : y < 0 ∨ 5 < y ∨ z < (-20) ∨ 20 < z) (H : pB 0 (fc, mo, pr, lc, dc, qd_un M, a2, a3, a4, a5, a6)) : wpX_set pB (fc, mo, pr, lc, dc, qd_un M, a2, a3, a4, a5, a6) (nI r) y z := by
  unfold wpX_set
  refine qd_isR r hr (br_f (by decide) ?_)
  refine br_c (fun _ => H) (fun h1 => br_c (fun _ => H) (fun h2 => br_c (fun _ => H) (fun h3 => br_f ?_ H)))
  rcases hu with g | g | g | g
  · exact absurd g h1
  · exact absurd g h2
  · exact absurd g h3
  · rw [Int32.not_le]; exact g
theorem qd_setP {z : Int32} (r i : Nat) (hr : r < 4) (hi : i < 6) (h1 : ¬ z < (-20)) (h2 : ¬ 20 < z) (H : pB 1 (fc, mo, pr, lc, dc, qd_un (qd_up M r (vp_updL (M r) i z.toInt64)), a2, a3, a4, a5, a6)) : wpX_set pB (fc, mo, pr, lc, dc, qd_un M, a2, a3, a4, a5, a6) (nI r) (nI i) z := by
  unfold wpX_set
  refine qd_isR r hr (br_f (by decide) ?_)
  refine br_f (nI_pos (by omega)) (br_f (nI_nlt (b := i) (a := 5) (by omega) (by omega)) (br_f h1 (br_t (Int32.not_lt.mp h2) ⟨qd_in (by omega) (by omega), nm_r ?_ H⟩)))
  rw [qd_cl (by omega) (by omega)]
  exact qd_wr (by omega)
theorem qd_dgN {x : Int32} (hx : qd_nr x) (H : pI (-1000)) : wpX_degree pI (fc, mo, pr, lc, dc, qd_un M, a2, a3, a4, a5, a6) x := by
  unfold wpX_degree
  exact qd_isN hx (br_t rfl H)
theorem qd_dgZ (r : Nat) (hr : r < 4) (hm : M r = qd_z) (H : pI (-1)) : wpX_degree pI (fc, mo, pr, lc, dc, qd_un M, a2, a3, a4, a5, a6) (nI r) := by
  unfold wpX_degree
  exact qd_isR r hr (br_f (by decide) (qd_deg0 r (by omega) hm H))
theorem qd_dgC {c : Int64} (r i : Nat) (hr : r < 4) (hi : i < 6) (hc : ¬ c = 0) (hm : M r = qd_mo c i) (H : pI (nI i)) : wpX_degree pI (fc, mo, pr, lc, dc, qd_un M, a2, a3, a4, a5, a6) (nI r) := by
  unfold wpX_degree
  exact qd_isR r hr (br_f (by decide) (qd_deg r i (by omega) (by omega) hc hm H))
theorem qd_coN {x : Int32} (hx : qd_nr x) (H : pI (-1000)) : wpX_content pI (fc, mo, pr, lc, dc, qd_un M, a2, a3, a4, a5, a6) x := by
  unfold wpX_content
  exact qd_isN hx (br_t rfl H)
theorem qd_coZ (r : Nat) (hr : r < 4) (hm : M r = qd_z) (H : pI ((0 : Int64).toInt32)) : wpX_content pI (fc, mo, pr, lc, dc, qd_un M, a2, a3, a4, a5, a6) (nI r) := by
  unfold wpX_content
  exact qd_isR r hr (br_f (by decide) (qd_content0 r (by omega) hm H))
theorem qd_coC {c ab : Int64} (r i : Nat) (hr : r < 4) (hi : i < 6) (hc : qd_sm c ab) (hm : M r = qd_mo c i) (H : pI ab.toInt32) : wpX_content pI (fc, mo, pr, lc, dc, qd_un M, a2, a3, a4, a5, a6) (nI r) := by
  unfold wpX_content
  exact qd_isR r hr (br_f (by decide) (qd_content r i (by omega) (by omega) hc hm H))
theorem qd_fcN {x : Int32} (hx : qd_nr x) (H : pB (-1000) (fc, mo, pr, lc, dc, qd_un M, a2, a3, a4, a5, a6)) : wpX_factors pB (fc, mo, pr, lc, dc, qd_un M, a2, a3, a4, a5, a6) x := by
  unfold wpX_factors
  exact qd_isN hx (br_t rfl H)
theorem qd_fcZ (r : Nat) (hr : r < 4) (hm : M r = qd_z) (H : pB 0 (0, mo, pr, lc, dc, qd_un M, a2, a3, a4, a5, a6)) : wpX_factors pB (fc, mo, pr, lc, dc, qd_un M, a2, a3, a4, a5, a6) (nI r) := by
  unfold wpX_factors
  exact qd_isR r hr (br_f (by decide) (qd_ffz r hr hm H))
theorem qd_fcC {c ab : Int64} (r i : Nat) (hr : r < 4) (hi : i < 6) (hc : qd_sm c ab) (hm : M r = qd_mo c i)
    (H : ∀ (N : Nat → Nat → Int64) (m' p' : Int64) (l' : Int32) (b2 : Nat → Int32) (b3 : Nat → Int64) (b4 : Nat → Int32), N r = M r → pB (nI i) (nI i, m', p', l', dc, qd_un N, b2, b3, b4, a5, a6)) : wpX_factors pB (fc, mo, pr, lc, dc, qd_un M, a2, a3, a4, a5, a6) (nI r) := by
  unfold wpX_factors
  refine qd_isR r hr (br_f (by decide) ?_)
  rcases Nat.eq_zero_or_pos i with e0 | e0
  · rw [e0] at hm H
    exact qd_ff0 r hr hc.1 hm (H M mo pr lc a2 a3 a4 rfl)
  · refine qd_ff r i hr e0 hi hc hm ?_
    intro N m' p' l' b2 b3 b4 NF hf
    exact H N m' p' l' b2 b3 b4 (NF r hr)
end
end
section
section
variable {post : Int32 → St0 → Prop} {x0 x1 x2 x3 x4 x5 x6 x7 x8 x9 x10 : Int32}
/-- no register -/
theorem qd_lawA (h0 : qd_nr x0) (H : post 1 ()) : wL_lawOf_132 post 378 6048 x0 x1 x2 x3 x4 x5 0 0 x8 x9 x10 0 0 := by
  unfold wL_lawOf_132
  refine ⟨by decide, by decide, 6, 389, by decide, by decide, ?_⟩
  unfold wpX_init
  refine ⟨by decide, by decide, by decide, by decide, by decide, by decide, by decide, by decide, by decide, by decide, by decide, by decide, ?_⟩
  refine qd_setN (M := fun _ => qd_z) h0 (br_t rfl ?_)
  refine qd_dgN (M := fun _ => qd_z) h0 (br_t rfl ?_)
  unfold wL_lawOf_185
  refine br_t rfl ?_
  refine qd_coN (M := fun _ => qd_z) h0 (br_t rfl ?_)
  unfold wL_lawOf_226
  refine br_t rfl ?_
  refine qd_fcN (M := fun _ => qd_z) h0 (br_t rfl ?_)
  unfold wL_lawOf_258
  refine br_t rfl ?_
  refine qd_rootsN (M := fun _ => qd_z) h0 (br_t rfl ?_)
  unfold wL_lawOf_281 wL_lawOf_306
  refine br_t rfl ?_
  refine qd_facA (M := fun _ => qd_z) h0 ?_
  intro u
  obtain ⟨u1, u2, u3, u4, u5, u6, u7, u8, u9, u10, u11⟩ := u
  refine br_t rfl ?_
  unfold wL_lawOf_336 wL_lawOf_363
  exact br_t rfl H
theorem qd_nr0 {x : Int32} {A B : Prop} (hx : qd_nr x) (a : A) : (x < 0 → A) ∧ (¬ x < 0 → ((x ≤ 3 → B) ∧ (¬ x ≤ 3 → A))) := by
  refine br_c (fun _ => a) (fun h => br_f ?_ a)
  rcases hx with g | g
  · exact absurd g h
  · rw [Int32.not_le]; exact g
theorem qd_nr1 {x : Int32} {A B : Prop} {d : Nat} (hd : d < 4) (e : x = nI d) (b : B) : (x < 0 → A) ∧ (¬ x < 0 → ((x ≤ 3 → B) ∧ (¬ x ≤ 3 → A))) := by
  rw [e]
  exact br_f (nI_pos (by omega)) (br_t (nI_le (b := 3) (by omega) (by decide)) b)
/-- the flag of the small primes -/
def qd_pf (x4 x9 : Int32) : Prop := (qd_sp x4 ∧ x9 = 1) ∨ (¬ qd_sp x4 ∧ x9 = 0)
/-- a register with nothing in it -/
theorem qd_lawB {r : Nat} {M : Nat → Nat → Int64} (hr : r < 4) (hm : M r = qd_z) (hp : qd_pf x4 x9) (H : post 1 ()) {kc ks : Nat} :
    wL_lawOf_185 post 378 6048 (nI r) x1 x2 x3 x4 x5 1 0 x9 0 (-1) (-1) kc ks 0 0 0 0 0 (qd_un M) (fun _ => 0) (fun _ => 0) (fun _ => 0) (fun _ => 0) (fun _ => 0) := by
  unfold wL_lawOf_185
  refine br_t rfl ?_
  refine qd_coZ r hr hm (br_f (by decide) (br_t rfl ?_))
  unfold wL_lawOf_226
  refine br_t (by decide) ?_
  refine qd_fcZ r hr hm (br_f (by decide) (br_t rfl ?_))
  have F : ∀ z0, wL_lawOf_306 post 378 6048 (nI r) x1 x3 x5 1 0 z0 z0 kc ks 0 0 0 0 0 (qd_un M) (fun _ => 0) (fun _ => 0) (fun _ => 0) (fun _ => 0) (fun _ => 0) := by
    intro z0
    unfold wL_lawOf_306
    refine br_t rfl ?_
    refine qd_facZ r hr hm ?_ ?_
    · intro hx u
      obtain ⟨u1, u2, u3, u4, u5, u6, u7, u8, u9, u10, u11⟩ := u
      refine br_f (by decide) (qd_nr0 hx ?_)
      unfold wL_lawOf_336 wL_lawOf_363
      exact br_t rfl H
    · intro d hd e u
      obtain ⟨u1, u2, u3, u4, u5, u6, u7, u8, u9, u10, u11⟩ := u
      refine br_f (by decide) (qd_nr1 hd e (br_t rfl ?_))
      unfold wL_lawOf_360 wL_lawOf_363
      exact br_t rfl H
  unfold wL_lawOf_258
  refine br_t rfl ?_
  rcases hp with ⟨hs, e⟩ | ⟨hs, e⟩
  · refine qd_rootsZ r hr hs hm (br_f (by decide) (br_f (by rw [e]; decide) (br_t rfl ?_)))
    exact F x4
  · refine qd_rootsP r hr hs (br_f (by decide) (br_t e ?_))
    unfold wL_lawOf_281
    exact F (-1000)
/-- a register with c x^i -/
theorem qd_lawC {r i j : Nat} {M : Nat → Nat → Int64} (hr : r < 4) (hi : i < 6) (hj : j < 41) (hj0 : j ≠ 20) (hm : M r = qd_mo (qd_c j).toInt64 i) (hp : qd_pf x4 x9)
    (hx : (x10 = 0 ∧ (x9 = 0 ∨ qd_c j - qd_c j / x4 * x4 = 0)) ∨ (x10 = 1 ∧ ¬ qd_c j - qd_c j / x4 * x4 = 0)) (H : post 1 ()) {kc ks : Nat} :
    wL_lawOf_185 post 378 6048 (nI r) (nI i) (qd_c j) x3 x4 x5 1 1 x9 x10 (nI i) (nI i) kc ks 0 0 0 0 0 (qd_un M) (fun _ => 0) (fun _ => 0) (fun _ => 0) (fun _ => 0) (fun _ => 0) := by
  have hc := qd_smc j hj hj0
  unfold wL_lawOf_185
  refine br_t rfl ?_
  refine qd_coC r i hr hi hc hm (br_f (by decide) (br_f (by decide) ?_))
  have E : (qd_ab j).toInt64.toInt32 = qd_ab j := Int32.toInt32_toInt64 _
  have D : wL_lawOf_226 post 378 6048 (nI r) (nI i) x3 x4 x5 1 1 x9 x10 (qd_ab j) (qd_ab j) kc ks 0 0 0 0 0 (qd_un M) (fun _ => 0) (fun _ => 0) (fun _ => 0) (fun _ => 0) (fun _ => 0) := by
    unfold wL_lawOf_226
    refine br_t rfl ?_
    refine qd_fcC r i hr hi hc hm ?_
    intro N m' p' l' b2 b3 b4 NF
    have hn : N r = qd_mo (qd_c j).toInt64 i := by rw [NF, hm]
    refine br_f (by decide) (br_f (by decide) ?_)
    have F : ∀ z0, wL_lawOf_306 post 378 6048 (nI r) (nI i) x3 x5 1 1 z0 z0 kc ks (nI i) m' p' l' 0 (qd_un N) b2 b3 b4 (fun _ => 0) (fun _ => 0) := by
      intro z0
      unfold wL_lawOf_306
      refine br_t rfl ?_
      refine qd_facC r i hr hi hc hn ?_ ?_ ?_
      · intro hx u
        obtain ⟨u1, u2, u3, u4, u5, u6, u7, u8, u9, u10, u11⟩ := u
        refine br_f (by decide) (qd_nr0 hx ?_)
        unfold wL_lawOf_336 wL_lawOf_363
        exact br_t rfl H
      · intro d hd e hz u
        obtain ⟨u1, u2, u3, u4, u5, u6, u7, u8, u9, u10, u11⟩ := u
        have G : wL_lawOf_360 post 378 6048 (-1002) kc ks := by
          unfold wL_lawOf_360 wL_lawOf_363
          exact br_t rfl H
        refine br_f (by decide) (qd_nr1 hd e (br_f (by decide) ?_))
        refine br_c (fun _ => G) (fun g => br_t ?_ G)
        rcases hz with g2 | g2
        · exact absurd g2 g
        · exact g2
      · intro d hd e h1 h2 u
        obtain ⟨u1, u2, u3, u4, u5, u6, u7, u8, u9, u10, u11⟩ := u
        refine br_f (by decide) (qd_nr1 hd e (br_f (by decide) (br_f h1 (br_f h2 ?_))))
        unfold wL_lawOf_363
        exact br_t rfl H
    unfold wL_lawOf_258
    refine br_t rfl ?_
    rcases hp with ⟨hs, e⟩ | ⟨hs, e⟩
    · have e9 : ¬ x9 = 0 := by rw [e]; decide
      refine qd_rootsC r i j hr hi hj hs hn ?_ ?_ ?_
      · intro g
        rcases hx with ⟨g1, _⟩ | ⟨_, g2⟩
        · exact br_f (by decide) (br_f e9 (br_t g1 (F x4)))
        · exact absurd g g2
      · intro g i0
        rcases hx with ⟨_, g2 | g2⟩ | ⟨g1, _⟩
        · exact absurd g2 e9
        · exact absurd g2 g
        · exact br_f (by decide) (br_f e9 (br_f (by rw [g1]; decide) (br_t (by rw [i0]; decide) (F 0))))
      · intro g i0
        rcases hx with ⟨_, g2 | g2⟩ | ⟨g1, _⟩
        · exact absurd g2 e9
        · exact absurd g2 g
        · exact br_f (by decide) (br_f e9 (br_f (by rw [g1]; decide) (br_f (nI_nle (by omega) (by omega)) (F 1))))
    · refine qd_rootsP r hr hs (br_f (by decide) (br_t e ?_))
      unfold wL_lawOf_281
      exact F (-1000)
  rw [E]
  by_cases g : 0 ≤ qd_c j
  · refine br_t g ?_
    have e : qd_ab j = qd_c j := if_pos g
    rw [e] at D ⊢
    exact D
  · refine br_f g ?_
    have e : qd_ab j = - qd_c j := if_neg g
    rw [e] at D ⊢
    exact D
/-- a register and a put that doesn't go -/
theorem qd_lawU {r : Nat} (hr : r < 4) (hu : x1 < 0 ∨ 5 < x1 ∨ x2 < (-20) ∨ 20 < x2) (hp : qd_pf x4 x9) (H : post 1 ()) : wL_lawOf_132 post 378 6048 (nI r) x1 x2 x3 x4 x5 0 1 0 x9 0 0 0 := by
  unfold wL_lawOf_132
  refine ⟨by decide, by decide, 6, 389, by decide, by decide, ?_⟩
  unfold wpX_init
  refine ⟨by decide, by decide, by decide, by decide, by decide, by decide, by decide, by decide, by decide, by decide, by decide, by decide, ?_⟩
  refine qd_setU (M := fun _ => qd_z) r hr hu (br_t rfl ?_)
  refine qd_dgZ (M := fun _ => qd_z) r hr rfl (br_f (by decide) (br_t rfl ?_))
  exact qd_lawB (M := fun _ => qd_z) hr rfl hp H
theorem qd_lawP0 {r i : Nat} (hr : r < 4) (hi : i < 6) (hp : qd_pf x4 x9) (H : post 1 ()) : wL_lawOf_132 post 378 6048 (nI r) (nI i) 0 x3 x4 x5 1 1 0 x9 0 0 0 := by
  unfold wL_lawOf_132
  refine ⟨by decide, by decide, 6, 389, by decide, by decide, ?_⟩
  unfold wpX_init
  refine ⟨by decide, by decide, by decide, by decide, by decide, by decide, by decide, by decide, by decide, by decide, by decide, by decide, ?_⟩
  refine qd_setP (M := fun _ => qd_z) r i hr hi (by decide) (by decide) (br_t rfl ?_)
  have hm : qd_up (fun _ => qd_z) r (vp_updL ((fun _ => qd_z) r) i (0 : Int32).toInt64) r = qd_z := by
    rw [qd_ups]
    exact qd_mo0 (i := i)
  refine qd_dgZ r hr hm (br_f (by decide) (br_t rfl ?_))
  exact qd_lawB hr hm hp H
theorem qd_lawP1 {r i j : Nat} (hr : r < 4) (hi : i < 6) (hj : j < 41) (hj0 : j ≠ 20) (h1 : ¬ qd_c j < (-20)) (h2 : ¬ 20 < qd_c j) (hp : qd_pf x4 x9)
    (hx : (x10 = 0 ∧ (x9 = 0 ∨ qd_c j - qd_c j / x4 * x4 = 0)) ∨ (x10 = 1 ∧ ¬ qd_c j - qd_c j / x4 * x4 = 0)) (H : post 1 ()) : wL_lawOf_132 post 378 6048 (nI r) (nI i) (qd_c j) x3 x4 x5 1 1 1 x9 x10 0 0 := by
  unfold wL_lawOf_132
  refine ⟨by decide, by decide, 6, 389, by decide, by decide, ?_⟩
  unfold wpX_init
  refine ⟨by decide, by decide, by decide, by decide, by decide, by decide, by decide, by decide, by decide, by decide, by decide, by decide, ?_⟩
  refine qd_setP (M := fun _ => qd_z) r i hr hi h1 h2 (br_t rfl ?_)
  have hm : qd_up (fun _ => qd_z) r (vp_updL ((fun _ => qd_z) r) i (qd_c j).toInt64) r = qd_mo (qd_c j).toInt64 i := qd_ups
  refine qd_dgC r i hr hi (qd_smc j hj hj0).1 hm (br_f (by decide) (br_f (by decide) ?_))
  exact qd_lawC hr hi hj hj0 hm hp hx H
/-- the flags of prime and rest -/
theorem qd_l67 {kc ks mc ms : Nat}
    (H : ∀ x9 x10, qd_pf x4 x9 → ((x10 = 0 ∧ (x8 = 0 ∨ x9 = 0 ∨ x2 - x2 / x4 * x4 = 0)) ∨ (x10 = 1 ∧ ¬ x8 = 0 ∧ ¬ x2 - x2 / x4 * x4 = 0)) → wL_lawOf_132 post mc ms x0 x1 x2 x3 x4 x5 x6 x7 x8 x9 x10 kc ks) :
    wL_lawOf_67 post mc ms x0 x1 x2 x3 x4 x5 x6 x7 x8 kc ks := by
  have K : qd_sp x4 → wL_lawOf_94 post mc ms x0 x1 x2 x3 x4 x5 x6 x7 x8 kc ks := by
    intro hs
    have h4 : ¬ x4 = 0 := by rcases hs with rfl | rfl | rfl | rfl <;> decide
    unfold wL_lawOf_94 wL_lawOf_99
    refine br_c (fun g => ?_) (fun g => br_f (by decide) (br_f (by decide) ?_))
    · unfold wL_lawOf_131
      exact H 1 0 (Or.inl ⟨hs, rfl⟩) (Or.inl ⟨rfl, Or.inl g⟩)
    · unfold wL_lawOf_123
      refine ⟨h4, br_c (fun g2 => ?_) (fun g2 => ?_)⟩
      · unfold wL_lawOf_131
        exact H 1 0 (Or.inl ⟨hs, rfl⟩) (Or.inl ⟨rfl, Or.inr (Or.inr g2)⟩)
      · exact H 1 1 (Or.inl ⟨hs, rfl⟩) (Or.inr ⟨rfl, g, g2⟩)
  unfold wL_lawOf_67
  refine br_c (fun g => K (Or.inl g)) (fun g1 => br_c (fun g => K (Or.inr (Or.inl g))) (fun g2 => br_c (fun g => K (Or.inr (Or.inr (Or.inl g)))) (fun g3 => br_c (fun g => K (Or.inr (Or.inr (Or.inr g)))) (fun g4 => ?_))))
  have hs : ¬ qd_sp x4 := by
    intro h
    rcases h with g | g | g | g
    · exact g1 g
    · exact g2 g
    · exact g3 g
    · exact g4 g
  unfold wL_lawOf_99
  refine br_c (fun g => ?_) (fun g => br_t rfl ?_)
  · unfold wL_lawOf_131
    exact H 0 0 (Or.inr ⟨hs, rfl⟩) (Or.inl ⟨rfl, Or.inl g⟩)
  · unfold wL_lawOf_131
    exact H 0 0 (Or.inr ⟨hs, rfl⟩) (Or.inl ⟨rfl, Or.inr (Or.inl rfl)⟩)
theorem qd_34A (h0 : qd_nr x0) (H : post 1 ()) : wL_lawOf_34 post 378 6048 x0 x1 x2 x3 x4 x5 0 0 := by
  have G : wL_lawOf_50 post 378 6048 x0 x1 x2 x3 x4 x5 0 0 0 := by
    unfold wL_lawOf_50 wL_lawOf_51
    refine br_t rfl ?_
    unfold wL_lawOf_66
    exact qd_l67 (fun x9 x10 _ _ => qd_lawA h0 H)
  unfold wL_lawOf_34 wL_lawOf_35
  refine br_c (fun _ => G) (fun g => br_t ?_ G)
  rcases h0 with g2 | g2
  · exact absurd g2 g
  · exact g2
theorem qd_34U {r : Nat} (hr : r < 4) (hu : x1 < 0 ∨ 5 < x1 ∨ x2 < (-20) ∨ 20 < x2) (H : post 1 ()) : wL_lawOf_34 post 378 6048 (nI r) x1 x2 x3 x4 x5 0 0 := by
  unfold wL_lawOf_34 wL_lawOf_35
  refine br_f (nI_pos (by omega)) (br_f (nI_nlt (b := r) (a := 3) (by omega) (by omega)) ?_)
  unfold wL_lawOf_51
  refine br_t rfl ?_
  unfold wL_lawOf_66
  refine qd_l67 (fun x9 x10 hp hx => ?_)
  have e : x10 = 0 := by
    rcases hx with ⟨e, _⟩ | ⟨_, e, _⟩
    · exact e
    · exact absurd rfl e
  rw [e]
  exact qd_lawU hr hu hp H
theorem qd_35 {r i j : Nat} (hr : r < 4) (hi : i < 6) (hj : j < 41) (h1 : ¬ qd_c j < (-20)) (h2 : ¬ 20 < qd_c j) (H : post 1 ()) : wL_lawOf_35 post 378 6048 (nI r) (nI i) (qd_c j) x3 x4 x5 1 0 0 := by
  unfold wL_lawOf_35
  refine br_f (nI_pos (by omega)) (br_f (nI_nlt (b := r) (a := 3) (by omega) (by omega)) ?_)
  unfold wL_lawOf_51
  refine br_f (by decide) (br_c (fun g => ?_) (fun g => ?_))
  · rw [g]
    unfold wL_lawOf_66
    refine qd_l67 (fun x9 x10 hp hx => ?_)
    have e : x10 = 0 := by
      rcases hx with ⟨e, _⟩ | ⟨_, e, _⟩
      · exact e
      · exact absurd rfl e
    rw [e]
    exact qd_lawP0 hr hi hp H
  · refine qd_l67 (fun x9 x10 hp hx => ?_)
    refine qd_lawP1 hr hi hj (fun e => g (by rw [e]; decide)) h1 h2 hp ?_ H
    rcases hx with ⟨e, g2 | g2⟩ | ⟨e, _, g3⟩
    · exact absurd g2 (by decide)
    · exact Or.inl ⟨e, g2⟩
    · exact Or.inr ⟨e, g3⟩
theorem qd_lawOf (H : post 1 ()) : wpL_lawOf post 378 6048 () x0 x1 x2 x3 x4 x5 := by
  unfold wpL_lawOf
  rcases qd_reg4 x0 with h0 | ⟨r, hr, e⟩
  · refine br_c (fun _ => qd_34A h0 H) (fun g => br_t ?_ (qd_34A h0 H))
    rcases h0 with g2 | g2
    · exact absurd g2 g
    · exact g2
  · rw [e]
    refine br_f (nI_pos (by omega)) (br_f (nI_nlt (b := r) (a := 3) (by omega) (by omega)) ?_)
    refine br_c (fun g1 => qd_34U hr (Or.inl g1) H) (fun g1 => br_c (fun g2 => qd_34U hr (Or.inr (Or.inl g2)) H) (fun g2 => br_c (fun g3 => qd_34U hr (Or.inr (Or.inr (Or.inl g3))) H) (fun g3 => br_c (fun g4 => qd_34U hr (Or.inr (Or.inr (Or.inr g4))) H) (fun g4 => ?_))))
    obtain ⟨i, hi, ei⟩ := nI_of2 (x := x1) (M := 5) (n := 5) (by decide) g1 (Int32.not_lt.mp g2)
    obtain ⟨j, hj, ej⟩ := qd_cof g3 g4
    rw [ej] at g3 g4
    rw [ei, ej]
    exact qd_35 hr (by omega) hj g3 g4 H
theorem qd_cell {L : Nat} {xs : Nat → Int32} {p : Int32 → Prop} (k : Nat) (hk : k < 6) (hL : L ≤ 6) (H : ∀ x, p x) : wpL_cellAt p L xs () (nI k) :=
  pk_le L k (fun _ => H 0) (fun z => ⟨pk_in k L z rfl (by omega), H _⟩)
end
theorem i_vc (xs : Nat → Int32) (L : Nat) (hL : L ≤ 6) : wpL_law (fun r => r = 1) L xs := by
  unfold wpL_law
  refine qd_cell 0 (by decide) hL (fun r1 => ?_)
  refine qd_cell 1 (by decide) hL (fun r2 => ?_)
  refine qd_cell 2 (by decide) hL (fun r3 => ?_)
  refine qd_cell 3 (by decide) hL (fun r4 => ?_)
  refine qd_cell 4 (by decide) hL (fun r5 => ?_)
  refine qd_cell 5 (by decide) hL (fun r6 => ?_)
  exact ⟨378, 6048, by decide, by decide, qd_lawOf rfl⟩
end
