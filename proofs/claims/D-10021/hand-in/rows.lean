section
/-! the templates, the units, the masks: finite facts -/
abbrev ba_tm (t : Nat) : Int32 := if t = 0 then 145 else if t = 1 then 137 else if t = 2 then 273 else if t = 3 then 265 else if t = 4 then 289 else 292
def ba_Tm (a5 : Nat → Int32) : Prop := ∀ t, t < 6 → a5 t = ba_tm t
/-- the unit of slot p of template t -/
abbrev ba_un (t p : Nat) : Int32 := (ba_tm t >>> ((3 * nI p) &&& 31)) &&& 7
abbrev ba_uf (k : Int32) : Int32 := if k < 9 then (if k < 7 then (if k = 4 then 2 else if k = 5 then 2 else 3) else 1) else 4
abbrev ba_bt (g : Int32) (t : Nat) : Prop := ((g >>> (nI t &&& 31)) &&& 1) = 1
abbrev ba_ok (t p : Nat) (k : Int32) : Prop := (ba_un t p = 4 ↔ ¬ k < 9)
def ba_cl (g : Int32) (p : Nat) (u : Int32) : Nat → Int32
  | 0 => 0
  | t + 1 => if ((g >>> (nI t &&& 31)) &&& 1) = 1 then (if (ba_un t p &&& u) = 0 then ba_cl g p u t else ba_cl g p u t ||| ((1 : Int32) <<< (nI t &&& 31))) else ba_cl g p u t
theorem ba_bit : ∀ g, g < 64 → ∀ t, t < 6 → ((nI g >>> (nI t &&& 31)) &&& 1) = 0 ∨ ((nI g >>> (nI t &&& 31)) &&& 1) = 1 := by decide +kernel
theorem ba_bit5 : ∀ g, g < 64 → (∀ t, t < 5 → ((nI g >>> (nI t &&& 31)) &&& 1) = 0) → g = 0 ∨ ba_bt (nI g) 5 := by decide +kernel
theorem ba_clF1 : ∀ g, g < 64 → ∀ p, p < 3 → ∀ k, k < 11 → (ba_cl (nI g) p (ba_uf (nI k)) 6).toNatClampNeg < 64 ∧ ba_cl (nI g) p (ba_uf (nI k)) 6 = nI ((ba_cl (nI g) p (ba_uf (nI k)) 6).toNatClampNeg) := by decide +kernel
theorem ba_clF2 : ∀ g, g < 64 → ∀ p, p < 3 → ∀ k, k < 11 → ∀ t, t < 6 → ba_bt (ba_cl (nI g) p (ba_uf (nI k)) 6) t → ba_bt (nI g) t := by decide +kernel
theorem ba_clF3 : ∀ g, g < 64 → ∀ p, p < 3 → ∀ k, k < 11 → ∀ t, t < 6 → ba_bt (ba_cl (nI g) p (ba_uf (nI k)) 6) t → ¬ (ba_un t p &&& ba_uf (nI k)) = 0 := by decide +kernel
theorem ba_clF5 : ∀ p, p < 3 → ∀ k, k < 11 → ∀ t, t < 6 → (decide ((ba_un t p &&& ba_uf (nI k)) = 0) || (decide (ba_un t p = 4) == decide (9 ≤ k))) = true := by decide +kernel
theorem ba_clF4 (p : Nat) (hp : p < 3) (k : Nat) (hk : k < 11) (t : Nat) (ht : t < 6) (h : ¬ (ba_un t p &&& ba_uf (nI k)) = 0) : ba_ok t p (nI k) := by
  have F := ba_clF5 p hp k hk t ht
  rw [decide_eq_false h, Bool.false_or] at F
  have F' := beq_iff_eq.mp F
  have F2 : ba_un t p = 4 ↔ 9 ≤ k := decide_eq_decide.mp F'
  constructor
  · intro z
    exact nI_nlt (b := 9) (F2.mp z) (by omega)
  · intro z
    exact F2.mpr (Nat.not_lt.mp fun w => z (nI_lt (b := 9) w (by decide)))
theorem ba_clF (g : Nat) (hg : g < 64) (p : Nat) (hp : p < 3) (k : Nat) (hk : k < 11) : (ba_cl (nI g) p (ba_uf (nI k)) 6).toNatClampNeg < 64 ∧ ba_cl (nI g) p (ba_uf (nI k)) 6 = nI ((ba_cl (nI g) p (ba_uf (nI k)) 6).toNatClampNeg) ∧ ∀ t, t < 6 → ba_bt (ba_cl (nI g) p (ba_uf (nI k)) 6) t → ba_bt (nI g) t ∧ ba_ok t p (nI k) :=
  ⟨(ba_clF1 g hg p hp k hk).1, (ba_clF1 g hg p hp k hk).2, fun t ht h => ⟨ba_clF2 g hg p hp k hk t ht h, ba_clF4 p hp k hk t ht (ba_clF3 g hg p hp k hk t ht h)⟩⟩
theorem ba_clN : ∀ k, k < 11 → ba_cl 63 0 (ba_uf (nI k)) 6 = 0 → ¬ ba_cl 63 1 (ba_uf (nI k)) 6 = 0 := by decide +kernel
/-! words -/
abbrev ba_wd (n d f b : Int32) : Int32 := (((n + 1) ||| (d <<< ((4 : Int32) &&& 31))) ||| (f <<< ((7 : Int32) &&& 31))) ||| ((b + 128) <<< ((10 : Int32) &&& 31))
abbrev ba_kn (x un : Int32) : Int32 := if un = 4 then 9 + x else if 2 ≤ x then (if x = 6 then 6 else x - 2) else if un = 1 then 7 + x else 4 + x
def ba_gw (w un : Int32) : Prop := ¬ ba_kn ((w &&& 15) - 1) un < 9 → ∃ m : Nat, m < 25 ∧ (w >>> ((10 : Int32) &&& 31)) - 128 = nI m
theorem ba_wJ : ∀ k, k < 11 → 9 ≤ k → ∀ d, d < 8 → ∀ f, f < 8 → ∀ m, m < 25 → (ba_wd (nI k - 9) (nI d) (nI f) (nI m) >>> ((10 : Int32) &&& 31)) - 128 = nI m := by decide +kernel
theorem ba_gwJ {k d f m : Nat} {un : Int32} (hk : k < 11) (h9 : 9 ≤ k) (hd : d < 8) (hf : f < 8) (hm : m < 25) : ba_gw (ba_wd (nI k - 9) (nI d) (nI f) (nI m)) un :=
  fun _ => ⟨m, hm, ba_wJ k hk h9 d hd f hf m hm⟩
theorem ba_sh0 (x s : Int32) (k : Nat) (hs : (s.toBitVec.smod 32).toNat = k) (h4 : 4 ≤ k) : (x <<< s) &&& 15 = 0 := by
  rw [pk_and _ 4 (by decide), pk_shl x s k hs]
  have e : x.toBitVec.toNat * 2 ^ k % 2 ^ 32 % 2 ^ 4 = 0 := by
    obtain ⟨c, rfl⟩ := Nat.le.dest h4
    rw [Nat.pow_add]
    have : x.toBitVec.toNat * (2 ^ 4 * 2 ^ c) = 16 * (x.toBitVec.toNat * 2 ^ c) := by
      rw [Nat.mul_left_comm]
    rw [this]
    omega
  rw [e]
  rfl
theorem ba_dist (x y z : Int32) : (x ||| y) &&& z = (x &&& z) ||| (y &&& z) := by
  apply Int32.toBitVec_inj.mp
  simp only [Int32.toBitVec_and, Int32.toBitVec_or]
  apply BitVec.eq_of_getLsbD_eq
  intro i hi
  simp only [BitVec.getLsbD_and, BitVec.getLsbD_or]
  cases x.toBitVec.getLsbD i <;> cases y.toBitVec.getLsbD i <;> cases z.toBitVec.getLsbD i <;> rfl
theorem ba_or0 (x : Int32) : x ||| 0 = x := by
  apply Int32.toBitVec_inj.mp
  rw [Int32.toBitVec_or]
  exact BitVec.or_zero
theorem ba_lo (n d f b : Int32) : ba_wd n d f b &&& 15 = (n + 1) &&& 15 := by
  unfold ba_wd
  rw [ba_dist, ba_dist, ba_dist, ba_sh0 d _ 4 (by decide) (by omega), ba_sh0 f _ 7 (by decide) (by omega), ba_sh0 (b + 128) _ 10 (by decide) (by omega), ba_or0, ba_or0, ba_or0]
/-- the number that operations of the kinds below 9 are coded by -/
abbrev ba_nu (k : Int32) : Int32 := if k < 7 then (if k = 4 then k - 4 else if k = 5 then k - 4 else if k = 6 then 6 else k + 2) else k - 7
theorem ba_nuF : ∀ k, k < 9 → ∀ u, u < 4 → ba_kn (((ba_nu (nI k) + 1) &&& 15) - 1) (nI u) < 9 := by decide +kernel
theorem ba_unF : ∀ t, t < 6 → ∀ p, p < 3 → ¬ ba_un t p = 4 → ∃ u, u < 4 ∧ ba_un t p = nI u := by decide +kernel
theorem ba_gwN {k t p : Nat} {d f b : Int32} (hk : k < 9) (ht : t < 6) (hp : p < 3) (h : ¬ ba_un t p = 4) : ba_gw (ba_wd (ba_nu (nI k)) d f b) (ba_un t p) := by
  obtain ⟨u, hu, e⟩ := ba_unF t ht p hp h
  intro z
  rw [e, ba_lo] at z
  exact absurd (ba_nuF k hk u hu) z
theorem ba_gw0F : ∀ t, t < 6 → ∀ p, p < 3 → ba_kn (((0 : Int32) &&& 15) - 1) (ba_un t p) < 9 := by decide +kernel
theorem ba_gw0 {t p : Nat} (ht : t < 6) (hp : p < 3) : ba_gw 0 (ba_un t p) := fun z => absurd (ba_gw0F t ht p hp) z
/-! arrays -/
def ba_SR (a7 : Nat → Int32) : Prop := ∀ j, j < 24 → ∃ q, q < 72 ∧ a7 j = nI q
def ba_HR (a10 : Nat → Int32) : Prop := ∀ j, j < 24 → ∃ t, t < 6 ∧ a10 j = nI t
def ba_BB (a9 : Nat → Int32) : Prop := ∀ s, a9 s = 0 ∨ a9 s = 1
theorem ba_SRu {a7 : Nat → Int32} {i q : Nat} (h : ba_SR a7) (hq : q < 72) : ba_SR (upd a7 i (nI q)) := by
  intro j hj
  by_cases e : j = i
  · rw [e, pk_us]
    exact ⟨q, hq, rfl⟩
  · rw [pk_un e]
    exact h j hj
theorem ba_HRu {a10 : Nat → Int32} {i t : Nat} (h : ba_HR a10) (ht : t < 6) : ba_HR (upd a10 i (nI t)) := by
  intro j hj
  by_cases e : j = i
  · rw [e, pk_us]
    exact ⟨t, ht, rfl⟩
  · rw [pk_un e]
    exact h j hj
theorem ba_BB0 {a9 : Nat → Int32} {i : Nat} (h : ba_BB a9) : ba_BB (upd a9 i 0) := by
  intro j
  by_cases e : j = i
  · rw [e, pk_us]
    exact Or.inl rfl
  · rw [pk_un e]
    exact h j
theorem ba_BB1 {a9 : Nat → Int32} {i : Nat} (h : ba_BB a9) : ba_BB (upd a9 i 1) := by
  intro j
  by_cases e : j = i
  · rw [e, pk_us]
    exact Or.inr rfl
  · rw [pk_un e]
    exact h j
/-- one operation that emit has taken -/
def ba_op (k d f s : Int32) : Prop := ∃ kn dn fn : Nat, kn < 11 ∧ dn < 8 ∧ fn < 8 ∧ k = nI kn ∧ d = nI dn ∧ f = nI fn ∧ (9 ≤ kn → ∃ sn : Nat, sn < 25 ∧ s = nI sn)
def ba_ops (c : Nat) (a1 a2 a3 a4 : Nat → Int32) : Prop := ∀ j, j < c → ba_op (a1 j) (a2 j) (a3 j) (a4 j)
theorem ba_opsU {c : Nat} {a1 a2 a3 a4 : Nat → Int32} {k d f s : Int32} (h : ba_ops c a1 a2 a3 a4) (ho : ba_op k d f s) : ba_ops (c + 1) (upd a1 c k) (upd a2 c d) (upd a3 c f) (upd a4 c s) := by
  intro j hj
  by_cases e : j = c
  · rw [e, pk_us, pk_us, pk_us, pk_us]
    exact ho
  · rw [pk_un e, pk_un e, pk_un e, pk_un e]
    exact h j (by omega)
theorem ba_opsL {c c' : Nat} {a1 a2 a3 a4 : Nat → Int32} (h : ba_ops c a1 a2 a3 a4) (hc : c' ≤ c) : ba_ops c' a1 a2 a3 a4 := fun j hj => h j (by omega)
theorem ba_opS {k d f s : Int32} (h : ba_op k d f s) (z : ¬ k < 9) : ∃ sn : Nat, sn < 25 ∧ s = nI sn := by
  obtain ⟨kn, dn, fn, h1, h2, h3, rfl, rfl, rfl, h4⟩ := h
  refine h4 (Nat.not_lt.mp fun q => z ?_)
  exact nI_lt (b := 9) q (by decide)
/-! where the operations stand: closed bundles, an open one -/
def ba_okS (a10 : Nat → Int32) (q : Nat) (k : Int32) : Prop := ∃ t, t < 6 ∧ a10 (q / 3) = nI t ∧ ba_ok t (q % 3) k
def ba_PC (i b : Nat) (a1 a7 a10 : Nat → Int32) : Prop := ∀ j, j < i → ∃ q, a7 j = nI q ∧ q < 3 * b ∧ ba_okS a10 q (a1 j)
def ba_PO (i b g : Nat) (a1 a7 a10 : Nat → Int32) : Prop := ∀ j, j < i → ∃ q, a7 j = nI q ∧ q < 3 * b ∧ (q < 3 * (b - 1) → ba_okS a10 q (a1 j)) ∧ (3 * (b - 1) ≤ q → ∀ t, t < 6 → ba_bt (nI g) t → ba_ok t (q % 3) (a1 j))
theorem ba_close {i b g t : Nat} {a1 a7 a10 : Nat → Int32} (hb : 0 < b) (h : ba_PO i b g a1 a7 a10) (ht : t < 6) (hg : ba_bt (nI g) t) : ba_PC i b a1 a7 (upd a10 (b - 1) (nI t)) := by
  intro j hj
  obtain ⟨q, h1, h2, h3, h4⟩ := h j hj
  refine ⟨q, h1, h2, ?_⟩
  by_cases e : q < 3 * (b - 1)
  · obtain ⟨t', ht', g1, g2⟩ := h3 e
    refine ⟨t', ht', ?_, g2⟩
    rw [pk_un (by omega)]
    exact g1
  · refine ⟨t, ht, ?_, h4 (by omega) t ht hg⟩
    rw [show q / 3 = b - 1 by omega, pk_us]
theorem ba_claimO {i b g p m : Nat} {a1 a7 a10 : Nat → Int32} (hb : 0 < b) (h : ba_PO i b g a1 a7 a10) (hp : p < 3) (hm : ∀ t, t < 6 → ba_bt (nI m) t → ba_bt (nI g) t ∧ ba_ok t p (a1 i)) : ba_PO (i + 1) b m a1 (upd a7 i (nI (3 * (b - 1) + p))) a10 := by
  intro j hj
  by_cases e : j = i
  · subst e
    refine ⟨3 * (b - 1) + p, pk_us, by omega, fun z => absurd z (by omega), fun _ t ht hmt => ?_⟩
    rw [show (3 * (b - 1) + p) % 3 = p by omega]
    exact (hm t ht hmt).2
  · obtain ⟨q, h1, h2, h3, h4⟩ := h j (by omega)
    exact ⟨q, by rw [pk_un e]; exact h1, h2, h3, fun z t ht hmt => h4 z t ht (hm t ht hmt).1⟩
theorem ba_openO {i b g : Nat} {a1 a7 a10 : Nat → Int32} (h : ba_PC i b a1 a7 a10) : ba_PO i (b + 1) g a1 a7 a10 := by
  intro j hj
  obtain ⟨q, h1, h2, h3⟩ := h j hj
  exact ⟨q, h1, by omega, fun _ => h3, fun z => absurd z (by omega)⟩
end
section
theorem ba_unitAt {post : Int32 → Prop} {ct bn pd on fe fg wt gp pc fh tk : Int32} {a1 a2 a3 a4 a5 a6 a7 a8 a9 a10 a11 a12 a13 a14 : Nat → Int32} {q t : Nat} (hT : ba_Tm a5) (hq : q < 72) (ht : t < 6) (h10 : a10 (q / 3) = nI t) (hp : post (ba_un t (q % 3))) : wpX_unitAt post (ct, bn, pd, on, fe, fg, wt, gp, pc, fh, tk, a1, a2, a3, a4, a5, a6, a7, a8, a9, a10, a11, a12, a13, a14) (nI q) := by
  have e1 : nI q / 3 = nI (q / 3) := pk_div (d := 3) (by omega) (by omega) (by omega)
  have e2 : nI q - nI q / 3 * 3 = nI (q % 3) := pk_rem (d := 3) (by omega) (by omega) (by omega)
  unfold wpX_unitAt
  dsimp only
  rw [e2, e1, nI_clamp (show q / 3 < 2 ^ 31 by omega), h10, nI_clamp (show t < 2 ^ 31 by omega), hT t ht]
  exact ⟨by decide, vp_in_nI (by omega) (by omega), vp_in_nI ht (by omega), by decide, hp⟩
theorem ba_unitsFor {post : Int32 → Prop} {k : Int32} (h : post (ba_uf k)) : wpX_unitsFor post () k := by
  unfold ba_uf at h
  refine br_c (fun z => ?_) (fun z => ?_)
  · rw [if_pos z] at h
    refine br_c (fun z2 => ?_) (fun z2 => ?_)
    · rw [if_pos z2] at h
      refine br_c (fun z3 => ?_) (fun z3 => br_c (fun z4 => ?_) (fun z4 => ?_))
      · rw [if_pos z3] at h
        exact h
      · rw [if_neg z3, if_pos z4] at h
        exact h
      · rw [if_neg z3, if_neg z4] at h
        exact h
    · rw [if_neg z2] at h
      exact h
  · rw [if_neg z] at h
    exact h
theorem ba_cb10 (ct bn pd on fe fg wt gp pc fh tk : Int32) (a1 a2 a3 a4 a5 a6 a7 a8 a9 a10 a11 a12 a13 a14 : Nat → Int32) {o g : Nat} (ho : o < 24) (hg : g < 64) (hg0 : 0 < g) : ∀ n t, t ≤ 5 → 5 - t < n → (∀ j, j < t → ((nI g >>> (nI j &&& 31)) &&& 1) = 0) → ∃ t', t' < 6 ∧ ba_bt (nI g) t' ∧ ∀ post : St1 → Prop, post (ct, bn, pd, (-1), fe, nI g, wt, gp, pc, fh, tk, a1, a2, a3, a4, a5, a6, a7, a8, a9, upd a10 o (nI t'), a11, a12, a13, a14) → wX_closeBundle_10 post ct bn pd (nI o) fe (nI g) wt gp pc fh tk a1 a2 a3 a4 a5 a6 a7 a8 a9 a10 a11 a12 a13 a14 n (nI t) := by
  intro n
  induction n with
  | zero => intro t h1 h2; omega
  | succ n ih =>
    intro t h1 h2 h3
    by_cases h5 : t = 5
    · subst h5
      refine ⟨5, by omega, ?_, fun post hp => ?_⟩
      · rcases ba_bit5 g hg h3 with z | z
        · omega
        · exact z
      · exact pk_le 5 5 (fun _ => ⟨pk_in o 24 ho, nm_r (by rw [nI_clamp (show o < 2 ^ 31 by omega)]) hp⟩) (fun z => absurd z (by omega))
    · rcases ba_bit g hg t (by omega) with z | z
      · obtain ⟨t', g1, g2, g3⟩ := ih (t + 1) (by omega) (by omega) (lt_s h3 z)
        exact ⟨t', g1, g2, fun post hp => pk_le 5 t (fun w => absurd w (by omega)) (fun _ => br_t z (nm_r (nI_1 t) (g3 post hp)))⟩
      · exact ⟨t, by omega, z, fun post hp => pk_le 5 t (fun w => absurd w (by omega)) (fun _ => br_f (by rw [z]; decide) ⟨pk_in o 24 ho, nm_r (by rw [nI_clamp (show o < 2 ^ 31 by omega)]) hp⟩)⟩
theorem ba_closeO (ct bn pd on fe fg wt gp pc fh tk : Int32) (a1 a2 a3 a4 a5 a6 a7 a8 a9 a10 a11 a12 a13 a14 : Nat → Int32) {i b g : Nat} (hb : 0 < b) (hb2 : b ≤ 24) (g0 : 0 < g) (hg : g < 64) (h10 : ba_HR a10) (h : ba_PO i b g a1 a7 a10) : ∃ a10', ba_HR a10' ∧ ba_PC i b a1 a7 a10' ∧ ∀ post : St1 → Prop, post (ct, bn, pd, (-1), fe, nI g, wt, gp, pc, fh, tk, a1, a2, a3, a4, a5, a6, a7, a8, a9, a10', a11, a12, a13, a14) → wpX_closeBundle post (ct, bn, pd, nI (b - 1), fe, nI g, wt, gp, pc, fh, tk, a1, a2, a3, a4, a5, a6, a7, a8, a9, a10, a11, a12, a13, a14) := by
  obtain ⟨t, ht, hgt, hw⟩ := ba_cb10 ct bn pd on fe fg wt gp pc fh tk a1 a2 a3 a4 a5 a6 a7 a8 a9 a10 a11 a12 a13 a14 (show b - 1 < 24 by omega) hg g0 6 0 (by omega) (by omega) (fun j hj => absurd hj (by omega))
  exact ⟨upd a10 (b - 1) (nI t), ba_HRu h10 ht, ba_close hb h ht hgt, fun post hp => br_t (nI_pos' (by omega)) ⟨6, hw post hp⟩⟩
theorem ba_endG (ct bn pd on fe fg wt gp pc fh tk : Int32) (a1 a2 a3 a4 a5 a6 a7 a8 a9 a10 a11 a12 a13 a14 : Nat → Int32) {i : Nat} (hi : i ≤ 24) (h7 : ba_SR a7) (h9 : ba_BB a9) : ∃ a9', ba_BB a9' ∧ ∀ post : St1 → Prop, post (ct, bn, pd, on, fe, fg, 0, nI i, pc, fh, tk, a1, a2, a3, a4, a5, a6, a7, a8, a9', a10, a11, a12, a13, a14) → wpX_endGroup post (ct, bn, pd, on, fe, fg, wt, gp, pc, fh, tk, a1, a2, a3, a4, a5, a6, a7, a8, a9, a10, a11, a12, a13, a14) (nI i) := by
  by_cases h0 : i = 0
  · subst h0
    exact ⟨a9, h9, fun post hp => pk_le 0 0 (fun _ => hp) (fun z => absurd z (by omega))⟩
  · obtain ⟨q, hq, e⟩ := h7 (i - 1) (by omega)
    have e1 : nI i - 1 = nI (i - 1) := pk_sub (a := i) (b := 1) (by omega)
    refine ⟨upd a9 q 1, ba_BB1 h9, fun post hp => pk_le i 0 (fun z => absurd z (by omega)) (fun _ => ?_)⟩
    rw [e1, nI_clamp (show i - 1 < 2 ^ 31 by omega), e, nI_clamp (show q < 2 ^ 31 by omega)]
    exact ⟨vp_in_nI (by omega) (by omega), vp_in_nI hq (by omega), nm_e hp⟩
theorem ba_meet (ct bn pd on fe fg wt gp pc fh tk : Int32) (a1 a2 a3 a4 a5 a6 a7 a8 a9 a10 a11 a12 a13 a14 : Nat → Int32) {k i : Nat} (hk : k < 24) (hi : i < 24) : ∃ r : Int32, ∀ post : Int32 → Prop, post r → wpX_mayMeet post (ct, bn, pd, on, fe, fg, wt, gp, pc, fh, tk, a1, a2, a3, a4, a5, a6, a7, a8, a9, a10, a11, a12, a13, a14) (nI k) (nI i) := by
  have ek : (nI k).toNatClampNeg = k := nI_clamp (by omega)
  have ei : (nI i).toNatClampNeg = i := nI_clamp (by omega)
  by_cases h3 : a3 k = a3 i
  · by_cases h4 : ((a4 k - a4 i) &&& 15) = 0
    · exact ⟨1, fun post hp => ⟨pk_in k 24 hk, pk_in i 24 hi, br_t (by rw [ek, ei]; exact h3) ⟨pk_in k 24 hk, pk_in i 24 hi, br_t (by rw [ek, ei]; exact h4) hp⟩⟩⟩
    · exact ⟨0, fun post hp => ⟨pk_in k 24 hk, pk_in i 24 hi, br_t (by rw [ek, ei]; exact h3) ⟨pk_in k 24 hk, pk_in i 24 hi, br_f (by rw [ek, ei]; exact h4) hp⟩⟩⟩
  · exact ⟨1, fun post hp => ⟨pk_in k 24 hk, pk_in i 24 hi, br_f (by rw [ek, ei]; exact h3) hp⟩⟩
theorem ba_ms85 (ct bn pd on fe fg wt gp pc fh tk : Int32) (a1 a2 a3 a4 a5 a6 a7 a8 a9 a10 a11 a12 a13 a14 : Nat → Int32) {i : Nat} (hi : i < 24) : ∀ n k, k < 100 → i - k < n → ∃ r : Int32, ∀ post : Int32 → Prop, post r → wX_mustStop_85 post (nI i) ct bn pd on fe fg wt gp pc fh tk a1 a2 a3 a4 a5 a6 a7 a8 a9 a10 a11 a12 a13 a14 n (nI k) := by
  intro n
  induction n with
  | zero => intro k _ h; omega
  | succ n ih =>
    intro k hk hn
    by_cases h : i ≤ k
    · exact ⟨0, fun post hp => pk_le i k (fun _ => hp) (fun z => absurd z (by omega))⟩
    · obtain ⟨r, hr⟩ := ih (k + 1) (by omega) (by omega)
      have ek : (nI k).toNatClampNeg = k := nI_clamp (by omega)
      by_cases h8 : a1 k = 8
      · obtain ⟨r2, hr2⟩ := ba_meet ct bn pd on fe fg wt gp pc fh tk a1 a2 a3 a4 a5 a6 a7 a8 a9 a10 a11 a12 a13 a14 (show k < 24 by omega) hi
        by_cases h0 : r2 = 0
        · exact ⟨r, fun post hp => pk_le i k (fun z => absurd z (by omega)) (fun _ => ⟨pk_in k 24 (by omega), br_t (by rw [ek]; exact h8) (hr2 _ (br_t h0 (nm_r (nI_1 k) (hr post hp))))⟩)⟩
        · exact ⟨1, fun post hp => pk_le i k (fun z => absurd z (by omega)) (fun _ => ⟨pk_in k 24 (by omega), br_t (by rw [ek]; exact h8) (hr2 _ (br_f h0 hp))⟩)⟩
      · exact ⟨r, fun post hp => pk_le i k (fun z => absurd z (by omega)) (fun _ => ⟨pk_in k 24 (by omega), br_f (by rw [ek]; exact h8) (nm_r (nI_1 k) (hr post hp))⟩)⟩
theorem ba_ms60 (ct bn pd on fe fg wt gp pc fh tk : Int32) (a1 a2 a3 a4 a5 a6 a7 a8 a9 a10 a11 a12 a13 a14 : Nat → Int32) {i gs : Nat} (hi : i < 24) (hg : gs < 100) (x2 x3 : Int32) : ∃ r : Int32, ∀ post : Int32 → Prop, post r → wX_mustStop_60 post (nI i) x2 x3 ct bn pd on fe fg wt (nI gs) pc fh tk a1 a2 a3 a4 a5 a6 a7 a8 a9 a10 a11 a12 a13 a14 := by
  by_cases h : (x3 &&& wt) = 0
  · by_cases h2 : x2 = 7
    · obtain ⟨r, hr⟩ := ba_ms85 ct bn pd on fe fg wt (nI gs) pc fh tk a1 a2 a3 a4 a5 a6 a7 a8 a9 a10 a11 a12 a13 a14 hi (i - gs + 1) gs hg (by omega)
      exact ⟨r, fun post hp => br_t h (br_t h2 ⟨_, hr post hp⟩)⟩
    · exact ⟨0, fun post hp => br_t h (br_f h2 hp)⟩
  · exact ⟨1, fun post hp => br_f h hp⟩
theorem ba_ms43 (ct bn pd on fe fg wt gp pc fh tk : Int32) (a1 a2 a3 a4 a5 a6 a7 a8 a9 a10 a11 a12 a13 a14 : Nat → Int32) {i gs : Nat} (hi : i < 24) (hg : gs < 100) (x2 x3 : Int32) : ∃ r : Int32, ∀ post : Int32 → Prop, post r → wX_mustStop_43 post (nI i) x2 x3 ct bn pd on fe fg wt (nI gs) pc fh tk a1 a2 a3 a4 a5 a6 a7 a8 a9 a10 a11 a12 a13 a14 := by
  by_cases h : x2 = 8
  · obtain ⟨r, hr⟩ := ba_ms60 ct bn pd on fe fg wt gp pc fh tk a1 a2 a3 a4 a5 a6 a7 a8 a9 a10 a11 a12 a13 a14 hi hg x2 (x3 ||| ((1 : Int32) <<< ((a2 (nI i).toNatClampNeg) &&& 31)))
    exact ⟨r, fun post hp => br_t h ⟨pk_in i 24 hi, nm_e (hr post hp)⟩⟩
  · obtain ⟨r, hr⟩ := ba_ms60 ct bn pd on fe fg wt gp pc fh tk a1 a2 a3 a4 a5 a6 a7 a8 a9 a10 a11 a12 a13 a14 hi hg x2 x3
    exact ⟨r, fun post hp => br_f h (hr post hp)⟩
theorem ba_ms25 (ct bn pd on fe fg wt gp pc fh tk : Int32) (a1 a2 a3 a4 a5 a6 a7 a8 a9 a10 a11 a12 a13 a14 : Nat → Int32) {i gs : Nat} (hi : i < 24) (hg : gs < 100) (x2 z0 : Int32) : ∃ r : Int32, ∀ post : Int32 → Prop, post r → wX_mustStop_25 post (nI i) x2 z0 ct bn pd on fe fg wt (nI gs) pc fh tk a1 a2 a3 a4 a5 a6 a7 a8 a9 a10 a11 a12 a13 a14 := by
  by_cases h : 6 ≤ x2
  · obtain ⟨r, hr⟩ := ba_ms43 ct bn pd on fe fg wt gp pc fh tk a1 a2 a3 a4 a5 a6 a7 a8 a9 a10 a11 a12 a13 a14 hi hg x2 z0
    exact ⟨r, fun post hp => br_t h (hr post hp)⟩
  · obtain ⟨r, hr⟩ := ba_ms43 ct bn pd on fe fg wt gp pc fh tk a1 a2 a3 a4 a5 a6 a7 a8 a9 a10 a11 a12 a13 a14 hi hg x2 (z0 ||| ((1 : Int32) <<< ((a4 (nI i).toNatClampNeg) &&& 31)))
    exact ⟨r, fun post hp => br_f h ⟨pk_in i 24 hi, nm_e (hr post hp)⟩⟩
theorem ba_mustStop (ct bn pd on fe fg wt gp pc fh tk : Int32) (a1 a2 a3 a4 a5 a6 a7 a8 a9 a10 a11 a12 a13 a14 : Nat → Int32) {i gs : Nat} (hi : i < 24) (hg : gs < 100) : ∃ r : Int32, ∀ post : Int32 → Prop, post r → wpX_mustStop post (ct, bn, pd, on, fe, fg, wt, nI gs, pc, fh, tk, a1, a2, a3, a4, a5, a6, a7, a8, a9, a10, a11, a12, a13, a14) (nI i) := by
  by_cases h : a1 (nI i).toNatClampNeg = 10
  · obtain ⟨r, hr⟩ := ba_ms25 ct bn pd on fe fg wt gp pc fh tk a1 a2 a3 a4 a5 a6 a7 a8 a9 a10 a11 a12 a13 a14 hi hg (a1 (nI i).toNatClampNeg) 0
    exact ⟨r, fun post hp => ⟨pk_in i 24 hi, nm_e (br_t h (hr post hp))⟩⟩
  · obtain ⟨r, hr⟩ := ba_ms25 ct bn pd on fe fg wt gp pc fh tk a1 a2 a3 a4 a5 a6 a7 a8 a9 a10 a11 a12 a13 a14 hi hg (a1 (nI i).toNatClampNeg) ((1 : Int32) <<< ((a3 (nI i).toNatClampNeg) &&& 31))
    exact ⟨r, fun post hp => ⟨pk_in i 24 hi, nm_e (br_f h ⟨pk_in i 24 hi, hr post hp⟩)⟩⟩
theorem ba_cl_s (g : Int32) (p : Nat) (u : Int32) (t : Nat) : ba_cl g p u (t + 1) = if ((g >>> (nI t &&& 31)) &&& 1) = 1 then (if (ba_un t p &&& u) = 0 then ba_cl g p u t else ba_cl g p u t ||| ((1 : Int32) <<< (nI t &&& 31))) else ba_cl g p u t := rfl
theorem ba_claim {post : Int32 → St1 → Prop} {ct bn pd fe fg wt gp pc fh tk : Int32} {a1 a2 a3 a4 a5 a6 a7 a8 a9 a10 a11 a12 a13 a14 : Nat → Int32} {i s o : Nat} {u : Int32} (hT : ba_Tm a5) (ho : o < 24) (hi : i < 24) (hs : s < 3) (h0 : ba_cl fg s u 6 = 0 → post 0 (ct, bn, pd, nI o, fe, fg, wt, gp, pc, fh, tk, a1, a2, a3, a4, a5, a6, a7, a8, a9, a10, a11, a12, a13, a14)) (h1 : ¬ ba_cl fg s u 6 = 0 → post 1 (ct, bn, pd, nI o, nI (s + 1), ba_cl fg s u 6, wt, gp, pc, fh, tk, a1, a2, a3, a4, a5, a6, upd a7 i (nI (3 * o + s)), a8, a9, a10, a11, a12, a13, a14)) : wpX_claim post (ct, bn, pd, nI o, fe, fg, wt, gp, pc, fh, tk, a1, a2, a3, a4, a5, a6, a7, a8, a9, a10, a11, a12, a13, a14) (nI i) (nI s) u := by
  have key : ∀ n t, t ≤ 6 → 6 - t < n → wX_claim_6 post (nI i) (nI s) u ct bn pd (nI o) fe fg wt gp pc fh tk a1 a2 a3 a4 a5 a6 a7 a8 a9 a10 a11 a12 a13 a14 n (ba_cl fg s u t) (nI t) := by
    intro n
    induction n with
    | zero => intro t _ h; omega
    | succ n ih =>
      intro t ht hn
      by_cases h6 : t = 6
      · subst h6
        refine pk_le 6 6 (fun _ => br_c h0 (fun z => nm_r (nI_1 s) ⟨pk_in i 24 hi, nm_r ?_ (h1 z)⟩)) (fun z => absurd z (by omega))
        show upd a7 _ (nI 3 * nI o + nI s) = _
        rw [nI_clamp (show i < 2 ^ 31 by omega), pk_mul, nI_add]
      · refine pk_le 6 t (fun z => absurd z (by omega)) (fun _ => ⟨pk_in t 6 (by omega), ?_⟩)
        rw [nI_clamp (show t < 2 ^ 31 by omega), hT t (by omega)]
        have ih' := ih (t + 1) (by omega) (by omega)
        refine nm_e (br_c (fun z => br_c (fun z2 => nm_r (nI_1 t) ?_) (fun z2 => nm_e (nm_r (nI_1 t) ?_))) (fun z => nm_r (nI_1 t) ?_))
        · rw [ba_cl_s, if_pos z, if_pos z2] at ih'
          exact ih'
        · rw [ba_cl_s, if_pos z, if_neg z2] at ih'
          exact ih'
        · rw [ba_cl_s, if_neg z] at ih'
          exact ih'
  exact ⟨7, key 7 0 (by omega) (by omega)⟩
theorem ba_put79 (ct bn pd on fe fg wt gp pc fh tk : Int32) (a1 a2 a3 a4 a5 a6 a7 a8 a9 a10 a11 a12 a13 a14 : Nat → Int32) {i o k : Nat} (hT : ba_Tm a5) (ho : o < 24) (hi : i < 24) (hk : k < 11) : ∃ s, s < 2 ∧ ¬ ba_cl 63 s (ba_uf (nI k)) 6 = 0 ∧ ∀ post : St1 → Prop, post (ct, bn, pd, nI o, nI (s + 1), ba_cl 63 s (ba_uf (nI k)) 6, wt, gp, pc, fh, tk, a1, a2, a3, a4, a5, a6, upd a7 i (nI (3 * o + s)), a8, a9, a10, a11, a12, a13, a14) → ∃ fu, wX_putIntoSlot_79 post (nI i) (ba_uf (nI k)) fu 0 ct bn pd (nI o) 0 63 wt gp pc fh tk a1 a2 a3 a4 a5 a6 a7 a8 a9 a10 a11 a12 a13 a14 := by
  by_cases h : ba_cl 63 0 (ba_uf (nI k)) 6 = 0
  · refine ⟨1, by omega, ba_clN k hk h, fun post hp => ⟨2, ?_⟩⟩
    refine pk_le 3 0 (fun z => absurd z (by omega)) (fun _ => ba_claim (s := 0) hT ho hi (by omega) (fun _ => br_t rfl (nm_r (nI_1 0) ?_)) (fun z => absurd h z))
    exact pk_le 3 1 (fun z => absurd z (by omega)) (fun _ => ba_claim (s := 1) hT ho hi (by omega) (fun z => absurd z (ba_clN k hk h)) (fun _ => br_f (by decide) hp))
  · exact ⟨0, by omega, h, fun post hp => ⟨1, pk_le 3 0 (fun z => absurd z (by omega)) (fun _ => ba_claim (s := 0) hT ho hi (by omega) (fun z => absurd z h) (fun _ => br_f (by decide) hp))⟩⟩
def ba_PS (i : Nat) (bn on fe fg : Int32) (a1 a7 a10 : Nat → Int32) : Prop := ∃ b, bn = nI b ∧ b ≤ i ∧ ba_SR a7 ∧ ba_HR a10 ∧ ((on = -1 ∧ ba_PC i b a1 a7 a10) ∨ (∃ g f, 0 < b ∧ on = nI (b - 1) ∧ fe = nI f ∧ f ≤ 3 ∧ fg = nI g ∧ 0 < g ∧ g < 64 ∧ ba_PO i b g a1 a7 a10))
theorem ba_pos {x : Int32} {m : Nat} (h : ¬ x = 0) (e : x = nI m) : 0 < m := by
  rcases Nat.eq_zero_or_pos m with z | z
  · rw [z] at e
    exact absurd e h
  · exact z
theorem ba_putN (ct bn pd on fe fg wt gp pc fh tk : Int32) (a1 a2 a3 a4 a5 a6 a7 a8 a9 a10 a11 a12 a13 a14 : Nat → Int32) {i b k : Nat} (hT : ba_Tm a5) (hi : i < 24) (hb : b ≤ i) (hk : k < 11) (ek : a1 i = nI k) (h7 : ba_SR a7) (h10 : ba_HR a10) (hc : ba_PC i b a1 a7 a10) : ∃ on' fe' fg' a7', ba_PS (i + 1) (nI (b + 1)) on' fe' fg' a1 a7' a10 ∧ ∀ post : St1 → Prop, post (ct, nI (b + 1), pd, on', fe', fg', wt, gp, pc, fh, tk, a1, a2, a3, a4, a5, a6, a7', a8, a9, a10, a11, a12, a13, a14) → wX_putIntoSlot_48 post (nI i) (ba_uf (nI k)) ct (nI b) pd on fe fg wt gp pc fh tk a1 a2 a3 a4 a5 a6 a7 a8 a9 a10 a11 a12 a13 a14 := by
  obtain ⟨s, h1, h2, h3⟩ := ba_put79 ct (nI (b + 1)) pd on fe fg wt gp pc fh tk a1 a2 a3 a4 a5 a6 a7 a8 a9 a10 a11 a12 a13 a14 hT (show b < 24 by omega) hi hk
  obtain ⟨F1, F2, F3⟩ := ba_clF 63 (by omega) s (by omega) k hk
  refine ⟨nI b, nI (s + 1), ba_cl 63 s (ba_uf (nI k)) 6, upd a7 i (nI (3 * b + s)), ⟨b + 1, rfl, by omega, ba_SRu h7 (by omega), h10, Or.inr ⟨_, s + 1, by omega, rfl, rfl, by omega, F2, ba_pos h2 F2, F1, ?_⟩⟩, fun post hp => nm_r (nI_1 b) (h3 post hp)⟩
  refine ba_claimO (b := b + 1) (g := 63) (p := s) (by omega) (ba_openO hc) (by omega) (fun t ht hm => ?_)
  rw [ek]
  rw [← F2] at hm
  exact F3 t ht hm
theorem ba_put22 (ct bn pd on fe fg wt gp pc fh tk : Int32) (a1 a2 a3 a4 a5 a6 a7 a8 a9 a10 a11 a12 a13 a14 : Nat → Int32) {i b g f k : Nat} (hT : ba_Tm a5) (hi : i < 24) (hb : b ≤ i) (hk : k < 11) (ek : a1 i = nI k) (h7 : ba_SR a7) (h10 : ba_HR a10) (b0 : 0 < b) (g0 : 0 < g) (hg : g < 64) (ho : ba_PO i b g a1 a7 a10) : ∀ n s, s ≤ 3 → 3 - s < n → ∃ bn' on' fe' fg' a7' a10', ba_PS (i + 1) bn' on' fe' fg' a1 a7' a10' ∧ ∀ post : St1 → Prop, post (ct, bn', pd, on', fe', fg', wt, gp, pc, fh, tk, a1, a2, a3, a4, a5, a6, a7', a8, a9, a10', a11, a12, a13, a14) → wX_putIntoSlot_22 post (nI i) (ba_uf (nI k)) n (nI s) ct (nI b) pd (nI (b - 1)) fe (nI g) wt gp pc fh tk a1 a2 a3 a4 a5 a6 a7 a8 a9 a10 a11 a12 a13 a14 := by
  intro n
  induction n with
  | zero => intro s _ h; omega
  | succ n ih =>
    intro s hs hn
    by_cases h3 : s = 3
    · subst h3
      obtain ⟨a10', g1, g2, g3⟩ := ba_closeO ct (nI b) pd on fe fg wt gp pc fh tk a1 a2 a3 a4 a5 a6 a7 a8 a9 a10 a11 a12 a13 a14 b0 (by omega) g0 hg h10 ho
      obtain ⟨on', fe', fg', a7', g4, g5⟩ := ba_putN ct bn pd (-1) fe (nI g) wt gp pc fh tk a1 a2 a3 a4 a5 a6 a7 a8 a9 a10' a11 a12 a13 a14 hT hi hb hk ek h7 g1 g2
      exact ⟨_, _, _, _, _, _, g4, fun post hp => pk_le 3 3 (fun _ => g3 _ (g5 post hp)) (fun z => absurd z (by omega))⟩
    · by_cases h0 : ba_cl (nI g) s (ba_uf (nI k)) 6 = 0
      · obtain ⟨bn', on', fe', fg', a7', a10', g4, g5⟩ := ih (s + 1) (by omega) (by omega)
        exact ⟨bn', on', fe', fg', a7', a10', g4, fun post hp => pk_le 3 s (fun z => absurd z (by omega)) (fun _ => ba_claim (s := s) hT (by omega) hi (by omega) (fun _ => br_t rfl (nm_r (nI_1 s) (g5 post hp))) (fun z => absurd h0 z))⟩
      · obtain ⟨F1, F2, F3⟩ := ba_clF g hg s (by omega) k hk
        refine ⟨nI b, nI (b - 1), nI (s + 1), ba_cl (nI g) s (ba_uf (nI k)) 6, upd a7 i (nI (3 * (b - 1) + s)), a10, ⟨b, rfl, by omega, ba_SRu h7 (by omega), h10, Or.inr ⟨_, s + 1, b0, rfl, rfl, by omega, F2, ba_pos h0 F2, F1, ?_⟩⟩, fun post hp => pk_le 3 s (fun z => absurd z (by omega)) (fun _ => ba_claim (s := s) hT (by omega) hi (by omega) (fun z => absurd z h0) (fun _ => br_f (by decide) hp))⟩
        refine ba_claimO b0 ho (by omega) (fun t ht hm => ?_)
        rw [ek]
        rw [← F2] at hm
        exact F3 t ht hm
theorem ba_put (ct bn pd on fe fg wt gp pc fh tk : Int32) (a1 a2 a3 a4 a5 a6 a7 a8 a9 a10 a11 a12 a13 a14 : Nat → Int32) {i k : Nat} (hT : ba_Tm a5) (hi : i < 24) (hk : k < 11) (ek : a1 i = nI k) (h : ba_PS i bn on fe fg a1 a7 a10) : ∃ bn' on' fe' fg' a7' a10', ba_PS (i + 1) bn' on' fe' fg' a1 a7' a10' ∧ ∀ post : St1 → Prop, post (ct, bn', pd, on', fe', fg', wt, gp, pc, fh, tk, a1, a2, a3, a4, a5, a6, a7', a8, a9, a10', a11, a12, a13, a14) → wpX_putIntoSlot post (ct, bn, pd, on, fe, fg, wt, gp, pc, fh, tk, a1, a2, a3, a4, a5, a6, a7, a8, a9, a10, a11, a12, a13, a14) (nI i) := by
  have ei : (nI i).toNatClampNeg = i := nI_clamp (by omega)
  obtain ⟨b, rfl, hb, h7, h10, ⟨rfl, hc⟩ | ⟨g, f, b0, rfl, rfl, hf, rfl, g0, hg, ho⟩⟩ := h
  · obtain ⟨on', fe', fg', a7', g4, g5⟩ := ba_putN ct (nI b) pd (-1) fe fg wt gp pc fh tk a1 a2 a3 a4 a5 a6 a7 a8 a9 a10 a11 a12 a13 a14 hT hi hb hk ek h7 h10 hc
    refine ⟨_, _, _, _, _, _, g4, fun post hp => ⟨pk_in i 24 hi, ?_⟩⟩
    rw [ei, ek]
    exact ba_unitsFor (br_t (by decide) (g5 post hp))
  · obtain ⟨bn', on', fe', fg', a7', a10', g4, g5⟩ := ba_put22 ct (nI b) pd (nI (b - 1)) (nI f) (nI g) wt gp pc fh tk a1 a2 a3 a4 a5 a6 a7 a8 a9 a10 a11 a12 a13 a14 (f := f) hT hi hb hk ek h7 h10 b0 g0 hg ho 4 f hf (by omega)
    refine ⟨bn', on', fe', fg', a7', a10', g4, fun post hp => ⟨pk_in i 24 hi, ?_⟩⟩
    rw [ei, ek]
    exact ba_unitsFor (br_f (nI_pos (by omega)) ⟨4, g5 post hp⟩)
theorem ba_closeB (ct bn pd on fe fg wt gp pc fh tk : Int32) (a1 a2 a3 a4 a5 a6 a7 a8 a9 a10 a11 a12 a13 a14 : Nat → Int32) {i : Nat} (hi : i ≤ 24) (h : ba_PS i bn on fe fg a1 a7 a10) : ∃ b a10', bn = nI b ∧ b ≤ i ∧ ba_SR a7 ∧ ba_HR a10' ∧ ba_PC i b a1 a7 a10' ∧ ∀ post : St1 → Prop, post (ct, bn, pd, (-1), fe, fg, wt, gp, pc, fh, tk, a1, a2, a3, a4, a5, a6, a7, a8, a9, a10', a11, a12, a13, a14) → wpX_closeBundle post (ct, bn, pd, on, fe, fg, wt, gp, pc, fh, tk, a1, a2, a3, a4, a5, a6, a7, a8, a9, a10, a11, a12, a13, a14) := by
  obtain ⟨b, rfl, hb, h7, h10, ⟨rfl, hc⟩ | ⟨g, f, b0, rfl, rfl, hf, rfl, g0, hg, ho⟩⟩ := h
  · exact ⟨b, a10, rfl, hb, h7, h10, hc, fun post hp => br_f (by decide) hp⟩
  · obtain ⟨a10', g1, g2, g3⟩ := ba_closeO ct (nI b) pd (nI (b - 1)) (nI f) (nI g) wt gp pc fh tk a1 a2 a3 a4 a5 a6 a7 a8 a9 a10 a11 a12 a13 a14 b0 (by omega) g0 hg h10 ho
    exact ⟨b, a10', rfl, hb, h7, g1, g2, g3⟩
end
section
theorem ba_fl31 (ct bn pd on fe fg wt gp pc fh tk : Int32) (a1 a2 a3 a4 a5 a6 a7 a8 a9 a10 a11 a12 a13 a14 : Nat → Int32) {c : Nat} (hc : c ≤ 24) (ho : ba_ops c a1 a2 a3 a4) : ∀ n i (a6 : Nat → Int32), i ≤ c → c - i < n → ∃ a6' : Nat → Int32, ∀ post : St1 → Prop, post (nI c, bn, pd, on, fe, fg, wt, gp, pc, fh, tk, a1, a2, a3, a4, a5, a6', a7, a8, a9, a10, a11, a12, a13, a14) → wX_findLeaders_31 post (nI c) bn pd on fe fg wt gp pc fh tk n (nI i) a1 a2 a3 a4 a5 a6 a7 a8 a9 a10 a11 a12 a13 a14 := by
  intro n
  induction n with
  | zero => intro i a6 _ h; omega
  | succ n ih =>
    intro i a6 hi hn
    by_cases h : i = c
    · subst h
      exact ⟨a6, fun post hp => pk_le i i (fun _ => hp) (fun z => absurd z (by omega))⟩
    · have ei : (nI i).toNatClampNeg = i := nI_clamp (by omega)
      by_cases h9 : a1 i < 9
      · obtain ⟨a6', h'⟩ := ih (i + 1) a6 (by omega) (by omega)
        exact ⟨a6', fun post hp => pk_le c i (fun z => absurd z (by omega)) (fun _ => ⟨pk_in i 24 (by omega), br_t (by rw [ei]; exact h9) (nm_r (nI_1 i) (h' post hp))⟩)⟩
      · obtain ⟨sn, hs, es⟩ := ba_opS (ho i (by omega)) h9
        by_cases hsn : c ≤ sn
        · obtain ⟨a6', h'⟩ := ih (i + 1) a6 (by omega) (by omega)
          exact ⟨a6', fun post hp => pk_le c i (fun z => absurd z (by omega)) (fun _ => ⟨pk_in i 24 (by omega), br_f (by rw [ei]; exact h9) ⟨pk_in i 24 (by omega), pk_le c sn (fun _ => nm_r (nI_1 i) (h' post hp)) (fun z => absurd z (by omega)) rfl (by rw [ei]; exact es)⟩⟩)⟩
        · obtain ⟨a6', h'⟩ := ih (i + 1) (upd a6 sn 1) (by omega) (by omega)
          exact ⟨a6', fun post hp => pk_le c i (fun z => absurd z (by omega)) (fun _ => ⟨pk_in i 24 (by omega), br_f (by rw [ei]; exact h9) ⟨pk_in i 24 (by omega), pk_le c sn (fun z => absurd z (by omega)) (fun _ => ⟨pk_in i 24 (by omega), pk_in sn 25 hs (by rw [ei]; exact es), nm_r (by rw [ei, es, nI_clamp (show sn < 2 ^ 31 by omega)]) (nm_r (nI_1 i) (h' post hp))⟩) rfl (by rw [ei]; exact es)⟩⟩)⟩
theorem ba_fl2 (ct bn pd on fe fg wt gp pc fh tk : Int32) (a1 a2 a3 a4 a5 a6 a7 a8 a9 a10 a11 a12 a13 a14 : Nat → Int32) {c : Nat} (hc : c ≤ 24) (ho : ba_ops c a1 a2 a3 a4) : ∀ n i (a6 : Nat → Int32), i ≤ 25 → 25 - i < n → ∃ a6' : Nat → Int32, ∀ post : St1 → Prop, post (nI c, bn, pd, on, fe, fg, wt, gp, pc, fh, tk, a1, a2, a3, a4, a5, a6', a7, a8, a9, a10, a11, a12, a13, a14) → wX_findLeaders_2 post (nI c) bn pd on fe fg wt gp pc fh tk n (nI i) a1 a2 a3 a4 a5 a6 a7 a8 a9 a10 a11 a12 a13 a14 := by
  intro n
  induction n with
  | zero => intro i a6 _ h; omega
  | succ n ih =>
    intro i a6 hi hn
    have ei : (nI i).toNatClampNeg = i := nI_clamp (by omega)
    by_cases h : i = 25
    · subst h
      obtain ⟨a6', h'⟩ := ba_fl31 ct bn pd on fe fg wt gp pc fh tk a1 a2 a3 a4 a5 a6 a7 a8 a9 a10 a11 a12 a13 a14 hc ho (c + 1) 0 a6 (by omega) (by omega)
      exact ⟨a6', fun post hp => pk_lt 24 25 (fun _ => ⟨c + 1, h' post hp⟩) (fun z => absurd z (by omega))⟩
    · by_cases h0 : i = 0
      · subst h0
        obtain ⟨a6', h'⟩ := ih 1 (upd a6 0 1) (by omega) (by omega)
        exact ⟨a6', fun post hp => pk_lt 24 0 (fun z => absurd z (by omega)) (fun _ => br_t rfl ⟨pk_in 0 25 (by omega), nm_r (by rw [ei]) (nm_r (nI_1 0) (h' post hp))⟩)⟩
      · obtain ⟨a6', h'⟩ := ih (i + 1) (upd a6 i 0) (by omega) (by omega)
        exact ⟨a6', fun post hp => pk_lt 24 i (fun z => absurd z (by omega)) (fun _ => br_f (nI_ne0 (by omega) (by omega)) ⟨pk_in i 25 (by omega), nm_r (by rw [ei]) (nm_r (nI_1 i) (h' post hp))⟩)⟩
theorem ba_findL (ct bn pd on fe fg wt gp pc fh tk : Int32) (a1 a2 a3 a4 a5 a6 a7 a8 a9 a10 a11 a12 a13 a14 : Nat → Int32) {c : Nat} (hc : c ≤ 24) (ho : ba_ops c a1 a2 a3 a4) : ∃ a6' : Nat → Int32, ∀ post : St1 → Prop, post (nI c, bn, pd, on, fe, fg, wt, gp, pc, fh, tk, a1, a2, a3, a4, a5, a6', a7, a8, a9, a10, a11, a12, a13, a14) → wpX_findLeaders post (nI c, bn, pd, on, fe, fg, wt, gp, pc, fh, tk, a1, a2, a3, a4, a5, a6, a7, a8, a9, a10, a11, a12, a13, a14) := by
  obtain ⟨a6', h'⟩ := ba_fl2 ct bn pd on fe fg wt gp pc fh tk a1 a2 a3 a4 a5 a6 a7 a8 a9 a10 a11 a12 a13 a14 hc ho 26 0 a6 (by omega) (by omega)
  exact ⟨a6', fun post hp => ⟨26, h' post hp⟩⟩
/-! coding the words -/
def ba_GW (a8 a10 : Nat → Int32) : Prop := ∀ s, s < 72 → ∀ t, t < 6 → a10 (s / 3) = nI t → ba_gw (a8 s) (ba_un t (s % 3))
theorem ba_GWu {a8 a10 : Nat → Int32} {q t : Nat} {w : Int32} (h : ba_GW a8 a10) (ht : t < 6) (e : a10 (q / 3) = nI t) (hw : ba_gw w (ba_un t (q % 3))) : ba_GW (upd a8 q w) a10 := by
  intro s hs t' ht' e'
  by_cases es : s = q
  · subst es
    rw [pk_us]
    rw [e] at e'
    have := (nI_eq (by omega) (by omega)).mp e'
    subst this
    exact hw
  · rw [pk_un es]
    exact h s hs t' ht' e'
theorem ba_GW0 {a8 a10 : Nat → Int32} (h : ∀ s, s < 72 → a8 s = 0) : ba_GW a8 a10 := by
  intro s hs t ht _
  rw [h s hs]
  exact ba_gw0 ht (by omega)
theorem ba_c129 {post : St1 → Prop} {ct bn pd on fe fg wt gp pc fh tk : Int32} {a1 a2 a3 a4 a5 a6 a7 a8 a9 a10 a11 a12 a13 a14 : Nat → Int32} {i q : Nat} {x5 x6 : Int32} (hi : i < 24) (hq : q < 72) (hp : post (ct, bn, pd, on, fe, fg, wt, gp, pc, fh, tk, a1, a2, a3, a4, a5, a6, a7, upd a8 q (ba_wd x5 (a2 i) (a3 i) x6), a9, a10, a11, a12, a13, a14)) : wX_code_129 post (nI i) (nI q) x5 x6 ct bn pd on fe fg wt gp pc fh tk a1 a2 a3 a4 a5 a6 a7 a8 a9 a10 a11 a12 a13 a14 := by
  have ei : (nI i).toNatClampNeg = i := nI_clamp (by omega)
  have eq' : (nI q).toNatClampNeg = q := nI_clamp (by omega)
  exact ⟨pk_in i 24 hi, pk_in i 24 hi, pk_in q 72 hq, nm_r (by rw [ei, eq']) hp⟩
theorem ba_c88N {post : St1 → Prop} {ct bn pd on fe fg wt gp pc fh tk : Int32} {a1 a2 a3 a4 a5 a6 a7 a8 a9 a10 a11 a12 a13 a14 : Nat → Int32} {i k q : Nat} {x5 : Int32} (hi : i < 24) (hq : q < 72) (hk : k < 9) (hp : post (ct, bn, pd, on, fe, fg, wt, gp, pc, fh, tk, a1, a2, a3, a4, a5, a6, a7, upd a8 q (ba_wd x5 (a2 i) (a3 i) (a4 i)), a9, a10, a11, a12, a13, a14)) : wX_code_88 post (nI i) (nI k) (nI q) x5 ct bn pd on fe fg wt gp pc fh tk a1 a2 a3 a4 a5 a6 a7 a8 a9 a10 a11 a12 a13 a14 := by
  have ei : (nI i).toNatClampNeg = i := nI_clamp (by omega)
  exact ⟨pk_in i 24 hi, nm_r (by rw [ei]) (pk_lt k 9 (fun _ => ba_c129 hi hq hp) (fun z => absurd z (by omega)))⟩
theorem ba_c88J (ct bn pd on fe fg wt gp pc fh tk : Int32) (a1 a2 a3 a4 a5 a6 a7 a8 a9 a10 a11 a12 a13 a14 : Nat → Int32) {i k q c b : Nat} (hc : c ≤ 24) (hb : b ≤ 24) (hi : i < 24) (hq : q < 72) (hk : 9 ≤ k) (hk2 : k < 11) (h7 : ba_SR a7) (hs : ∃ sn, sn < 25 ∧ a4 i = nI sn) : ∃ m, m < 25 ∧ ∀ (post : St1 → Prop) (x5 : Int32), post (nI c, nI b, pd, on, fe, fg, wt, gp, pc, fh, tk, a1, a2, a3, a4, a5, a6, a7, upd a8 q (ba_wd x5 (a2 i) (a3 i) (nI m)), a9, a10, a11, a12, a13, a14) → wX_code_88 post (nI i) (nI k) (nI q) x5 (nI c) (nI b) pd on fe fg wt gp pc fh tk a1 a2 a3 a4 a5 a6 a7 a8 a9 a10 a11 a12 a13 a14 := by
  have ei : (nI i).toNatClampNeg = i := nI_clamp (by omega)
  obtain ⟨sn, hsn, es⟩ := hs
  by_cases h : c ≤ sn
  · refine ⟨b, by omega, fun post x5 hp => ⟨pk_in i 24 hi, nm_r (e' := nI sn) (by rw [ei]; exact es) ?_⟩⟩
    exact pk_lt k 9 (fun z => absurd z (by omega)) (fun _ => pk_le c sn (fun _ => ba_c129 hi hq hp) (fun z => absurd z (by omega)))
  · obtain ⟨p, hp7, ep⟩ := h7 sn (by omega)
    refine ⟨p / 3, by omega, fun post x5 hp => ⟨pk_in i 24 hi, nm_r (e' := nI sn) (by rw [ei]; exact es) ?_⟩⟩
    refine pk_lt k 9 (fun z => absurd z (by omega)) (fun _ => pk_le c sn (fun z => absurd z (by omega)) (fun _ => ⟨pk_in sn 24 (by omega), by decide, ?_⟩))
    have e3 : a7 (nI sn).toNatClampNeg / 3 = nI (p / 3) := by
      rw [nI_clamp (show sn < 2 ^ 31 by omega), ep]
      exact pk_div (d := 3) (by omega) (by omega) (by omega)
    rw [e3]
    exact ba_c129 hi hq hp
theorem ba_code (ct bn pd on fe fg wt gp pc fh tk : Int32) (a1 a2 a3 a4 a5 a6 a7 a8 a9 a10 a11 a12 a13 a14 : Nat → Int32) {i c b : Nat} (hc : c ≤ 24) (hb : b ≤ 24) (hi : i < c) (hT : ba_Tm a5) (ho : ba_ops c a1 a2 a3 a4) (h7 : ba_SR a7) (hpc : ba_PC c b a1 a7 a10) (hg : ba_GW a8 a10) : ∃ a8', ba_GW a8' a10 ∧ ∀ post : St1 → Prop, post (nI c, nI b, pd, on, fe, fg, wt, gp, pc, fh, tk, a1, a2, a3, a4, a5, a6, a7, a8', a9, a10, a11, a12, a13, a14) → wpX_code post (nI c, nI b, pd, on, fe, fg, wt, gp, pc, fh, tk, a1, a2, a3, a4, a5, a6, a7, a8, a9, a10, a11, a12, a13, a14) (nI i) := by
  have ei : (nI i).toNatClampNeg = i := nI_clamp (by omega)
  obtain ⟨q, e7, hq, t, ht, e10, hok⟩ := hpc i hi
  have hq' : q < 72 := by omega
  have hs := fun z => ba_opS (ho i hi) z
  obtain ⟨k, d, f, hk, hd, hf, ek, ed, ef, _⟩ := ho i hi
  have e1' : a1 (nI i).toNatClampNeg = nI k := by rw [ei]; exact ek
  have e7' : a7 (nI i).toNatClampNeg = nI q := by rw [ei]; exact e7
  rw [ek] at hok hs
  by_cases hu : ba_un t (q % 3) = 4
  · have h9 : 9 ≤ k := Nat.not_lt.mp fun z => hok.mp hu (nI_lt (b := 9) z (by decide))
    obtain ⟨m, hm, h88⟩ := ba_c88J ct bn pd on fe fg wt gp pc fh tk a1 a2 a3 a4 a5 a6 a7 a8 a9 a10 a11 a12 a13 a14 hc hb (show i < 24 by omega) hq' h9 hk h7 (hs (hok.mp hu))
    refine ⟨upd a8 q (ba_wd (nI k - 9) (a2 i) (a3 i) (nI m)), ba_GWu hg ht e10 (by rw [ed, ef]; exact ba_gwJ hk h9 hd hf hm), fun post hp => ?_⟩
    exact ⟨pk_in i 24 (by omega), nm_r e1' ⟨pk_in i 24 (by omega), nm_r e7' (ba_unitAt hT hq' ht e10 (br_t hu (nm_e (h88 post _ hp))))⟩⟩
  · have h9 : k < 9 := Nat.not_le.mp fun z => hu (hok.mpr (nI_nlt (b := 9) z (by omega)))
    refine ⟨upd a8 q (ba_wd (ba_nu (nI k)) (a2 i) (a3 i) (a4 i)), ba_GWu hg ht e10 (ba_gwN h9 ht (by omega) hu), fun post hp => ?_⟩
    have H : ∀ x5, x5 = ba_nu (nI k) → wX_code_88 post (nI i) (nI k) (nI q) x5 (nI c) (nI b) pd on fe fg wt gp pc fh tk a1 a2 a3 a4 a5 a6 a7 a8 a9 a10 a11 a12 a13 a14 := fun x5 e5 => by
      subst e5
      exact ba_c88N (by omega) hq' h9 hp
    refine ⟨pk_in i 24 (by omega), nm_r e1' ⟨pk_in i 24 (by omega), nm_r e7' (ba_unitAt hT hq' ht e10 (br_f hu ?_))⟩⟩
    refine br_c (fun z7 => br_c (fun z4 => fun x5 e5 => ?_) (fun z4 => br_c (fun z5 => fun x5 e5 => ?_) (fun z5 => br_c (fun z6 => ?_) (fun z6 => ?_)))) (fun z7 => fun x5 e5 => ?_)
    · exact H x5 (by rw [e5]; unfold ba_nu; rw [if_pos z7, if_pos z4])
    · exact H x5 (by rw [e5]; unfold ba_nu; rw [if_pos z7, if_neg z4, if_pos z5])
    · exact H 6 (by unfold ba_nu; rw [if_pos z7, if_neg z4, if_neg z5, if_pos z6])
    · exact H (nI k + 2) (by unfold ba_nu; rw [if_pos z7, if_neg z4, if_neg z5, if_neg z6])
    · exact H x5 (by rw [e5]; unfold ba_nu; rw [if_neg z7])
theorem ba_pk172 (ct bn pd on fe fg wt gp pc fh tk : Int32) (a1 a2 a3 a4 a5 a6 a7 a8 a9 a10 a11 a12 a13 a14 : Nat → Int32) {c b : Nat} (hc : c ≤ 24) (hb : b ≤ 24) (hT : ba_Tm a5) (ho : ba_ops c a1 a2 a3 a4) (h7 : ba_SR a7) (hpc : ba_PC c b a1 a7 a10) : ∀ n i (a8 : Nat → Int32), i ≤ c → c - i < n → ba_GW a8 a10 → ∃ a8', ba_GW a8' a10 ∧ ∀ post : St1 → Prop, post (nI c, nI b, pd, on, fe, fg, wt, gp, pc, fh, tk, a1, a2, a3, a4, a5, a6, a7, a8', a9, a10, a11, a12, a13, a14) → wX_pack_172 post n (nI i) (nI c) (nI b) pd on fe fg wt gp pc fh tk a1 a2 a3 a4 a5 a6 a7 a8 a9 a10 a11 a12 a13 a14 := by
  intro n
  induction n with
  | zero => intro i a8 _ h; omega
  | succ n ih =>
    intro i a8 hi hn hg
    by_cases h : i = c
    · subst h
      exact ⟨a8, hg, fun post hp => pk_le i i (fun _ => hp) (fun z => absurd z (by omega))⟩
    · obtain ⟨a8', g1, g2⟩ := ba_code ct bn pd on fe fg wt gp pc fh tk a1 a2 a3 a4 a5 a6 a7 a8 a9 a10 a11 a12 a13 a14 hc hb (show i < c by omega) hT ho h7 hpc hg
      obtain ⟨a8'', g3, g4⟩ := ih (i + 1) a8' (by omega) (by omega) g1
      exact ⟨a8'', g3, fun post hp => pk_le c i (fun z => absurd z (by omega)) (fun _ => g2 _ (nm_r (nI_1 i) (g4 post hp)))⟩
/-! the loop that places the operations -/
theorem ba_pk142 (ct bn pd on fe fg wt gp pc fh tk : Int32) (a1 a2 a3 a4 a5 a6 a7 a8 a9 a10 a11 a12 a13 a14 : Nat → Int32) {i gs : Nat} (hi : i < 24) (hgs : gs ≤ i) (h7 : ba_SR a7) (h9 : ba_BB a9) : ∃ wt' gs' a9', gs' ≤ i + 1 ∧ ba_BB a9' ∧ ∀ (post : St1 → Prop) (J : Int32 → Int32 → Int32 → Int32 → Int32 → Int32 → Int32 → Int32 → Int32 → Int32 → Int32 → Int32 → (Nat → Int32) → (Nat → Int32) → (Nat → Int32) → (Nat → Int32) → (Nat → Int32) → (Nat → Int32) → (Nat → Int32) → (Nat → Int32) → (Nat → Int32) → (Nat → Int32) → (Nat → Int32) → (Nat → Int32) → (Nat → Int32) → (Nat → Int32) → Prop), J (nI (i + 1)) ct bn pd on fe fg wt' (nI gs') pc fh tk a1 a2 a3 a4 a5 a6 a7 a8 a9' a10 a11 a12 a13 a14 → wX_pack_142 post J (nI i) ct bn pd on fe fg wt (nI gs) pc fh tk a1 a2 a3 a4 a5 a6 a7 a8 a9 a10 a11 a12 a13 a14 := by
  have ei : (nI i).toNatClampNeg = i := nI_clamp (by omega)
  by_cases h : a1 i < 9
  · exact ⟨wt, gs, a9, by omega, h9, fun post J hJ => ⟨pk_in i 24 hi, br_t (by rw [ei]; exact h) (nm_r (nI_1 i) hJ)⟩⟩
  · obtain ⟨a9', g1, g2⟩ := ba_endG ct bn pd on fe fg wt (nI gs) pc fh tk a1 a2 a3 a4 a5 a6 a7 a8 a9 a10 a11 a12 a13 a14 (show i + 1 ≤ 24 by omega) h7 h9
    refine ⟨0, i + 1, a9', by omega, g1, fun post J hJ => ⟨pk_in i 24 hi, br_f (by rw [ei]; exact h) ?_⟩⟩
    rw [nI_1 i]
    exact g2 _ (nm_e hJ)
theorem ba_pk109 (ct bn pd on fe fg wt gp pc fh tk : Int32) (a1 a2 a3 a4 a5 a6 a7 a8 a9 a10 a11 a12 a13 a14 : Nat → Int32) {i k gs : Nat} (hi : i < 24) (hgs : gs ≤ i) (hT : ba_Tm a5) (hk : k < 11) (ek : a1 i = nI k) (h9 : ba_BB a9) (hs : ba_PS i bn on fe fg a1 a7 a10) : ∃ bn' on' fe' fg' wt' gs' a7' a9' a10', gs' ≤ i + 1 ∧ ba_BB a9' ∧ ba_PS (i + 1) bn' on' fe' fg' a1 a7' a10' ∧ ∀ (post : St1 → Prop) (J : Int32 → Int32 → Int32 → Int32 → Int32 → Int32 → Int32 → Int32 → Int32 → Int32 → Int32 → Int32 → (Nat → Int32) → (Nat → Int32) → (Nat → Int32) → (Nat → Int32) → (Nat → Int32) → (Nat → Int32) → (Nat → Int32) → (Nat → Int32) → (Nat → Int32) → (Nat → Int32) → (Nat → Int32) → (Nat → Int32) → (Nat → Int32) → (Nat → Int32) → Prop), J (nI (i + 1)) ct bn' pd on' fe' fg' wt' (nI gs') pc fh tk a1 a2 a3 a4 a5 a6 a7' a8 a9' a10' a11 a12 a13 a14 → wX_pack_109 post J (nI i) ct bn pd on fe fg wt (nI gs) pc fh tk a1 a2 a3 a4 a5 a6 a7 a8 a9 a10 a11 a12 a13 a14 := by
  obtain ⟨bn', on', fe', fg', a7', a10', g1, g2⟩ := ba_put ct bn pd on fe fg wt (nI gs) pc fh tk a1 a2 a3 a4 a5 a6 a7 a8 a9 a10 a11 a12 a13 a14 hT hi hk ek hs
  have h7' : ba_SR a7' := by
    obtain ⟨b, _, _, z, _⟩ := g1
    exact z
  by_cases h : 7 < a1 (nI i).toNatClampNeg
  · obtain ⟨wt', gs', a9', g3, g4, g5⟩ := ba_pk142 ct bn' pd on' fe' fg' wt gp pc fh tk a1 a2 a3 a4 a5 a6 a7' a8 a9 a10' a11 a12 a13 a14 hi hgs h7' h9
    exact ⟨bn', on', fe', fg', wt', gs', a7', a9', a10', g3, g4, g1, fun post J hJ => g2 _ ⟨pk_in i 24 hi, br_t h (g5 post J hJ)⟩⟩
  · obtain ⟨wt', gs', a9', g3, g4, g5⟩ := ba_pk142 ct bn' pd on' fe' fg' (wt ||| ((1 : Int32) <<< ((a2 (nI i).toNatClampNeg) &&& 31))) gp pc fh tk a1 a2 a3 a4 a5 a6 a7' a8 a9 a10' a11 a12 a13 a14 hi hgs h7' h9
    exact ⟨bn', on', fe', fg', wt', gs', a7', a9', a10', g3, g4, g1, fun post J hJ => g2 _ ⟨pk_in i 24 hi, br_f h ⟨pk_in i 24 hi, nm_e (g5 post J hJ)⟩⟩⟩
theorem ba_step67 (ct bn pd on fe fg wt gp pc fh tk : Int32) (a1 a2 a3 a4 a5 a6 a7 a8 a9 a10 a11 a12 a13 a14 : Nat → Int32) {i k gs c : Nat} (hc : c ≤ 24) (hi : i < c) (hgs : gs ≤ i) (hT : ba_Tm a5) (hk : k < 11) (ek : a1 i = nI k) (h9 : ba_BB a9) (hs : ba_PS i bn on fe fg a1 a7 a10) : ∃ bn' on' fe' fg' wt' gs' a7' a9' a10', gs' ≤ i + 1 ∧ ba_BB a9' ∧ ba_PS (i + 1) bn' on' fe' fg' a1 a7' a10' ∧ ∀ (post : St1 → Prop) (n : Nat), wX_pack_67 post n (nI (i + 1)) (nI c) bn' pd on' fe' fg' wt' (nI gs') pc fh tk a1 a2 a3 a4 a5 a6 a7' a8 a9' a10' a11 a12 a13 a14 → wX_pack_67 post (n + 1) (nI i) (nI c) bn pd on fe fg wt (nI gs) pc fh tk a1 a2 a3 a4 a5 a6 a7 a8 a9 a10 a11 a12 a13 a14 := by
  have ei : (nI i).toNatClampNeg = i := nI_clamp (by omega)
  have h7 : ba_SR a7 := by
    obtain ⟨b, _, _, z, _⟩ := hs
    exact z
  by_cases hl : a6 i = 0
  · obtain ⟨r, hr⟩ := ba_mustStop (nI c) bn pd on fe fg wt gp pc fh tk a1 a2 a3 a4 a5 a6 a7 a8 a9 a10 a11 a12 a13 a14 (show i < 24 by omega) (show gs < 100 by omega)
    by_cases h0 : r = 0
    · obtain ⟨bn', on', fe', fg', wt', gs', a7', a9', a10', g1, g2, g3, g4⟩ := ba_pk109 (nI c) bn pd on fe fg wt gp pc fh tk a1 a2 a3 a4 a5 a6 a7 a8 a9 a10 a11 a12 a13 a14 (show i < 24 by omega) hgs hT hk ek h9 hs
      exact ⟨bn', on', fe', fg', wt', gs', a7', a9', a10', g1, g2, g3, fun post n hJ => pk_le c i (fun z => absurd z (by omega)) (fun _ => ⟨pk_in i 25 (by omega), br_t (by rw [ei]; exact hl) (hr _ (br_t h0 (g4 post _ hJ)))⟩)⟩
    · obtain ⟨a9e, k1, k2⟩ := ba_endG (nI c) bn pd on fe fg wt (nI gs) pc fh tk a1 a2 a3 a4 a5 a6 a7 a8 a9 a10 a11 a12 a13 a14 (show i ≤ 24 by omega) h7 h9
      obtain ⟨bn', on', fe', fg', wt', gs', a7', a9', a10', g1, g2, g3, g4⟩ := ba_pk109 (nI c) bn pd on fe fg 0 gp pc fh tk a1 a2 a3 a4 a5 a6 a7 a8 a9e a10 a11 a12 a13 a14 (show i < 24 by omega) (Nat.le_refl i) hT hk ek k1 hs
      exact ⟨bn', on', fe', fg', wt', gs', a7', a9', a10', g1, g2, g3, fun post n hJ => pk_le c i (fun z => absurd z (by omega)) (fun _ => ⟨pk_in i 25 (by omega), br_t (by rw [ei]; exact hl) (hr _ (br_f h0 (k2 _ (g4 post _ hJ))))⟩)⟩
  · obtain ⟨b, a10c, l1, l2, l3, l4, l5, l6⟩ := ba_closeB (nI c) bn pd on fe fg wt (nI gs) pc fh tk a1 a2 a3 a4 a5 a6 a7 a8 a9 a10 a11 a12 a13 a14 (show i ≤ 24 by omega) hs
    obtain ⟨a9e, k1, k2⟩ := ba_endG (nI c) bn pd (-1) fe fg wt (nI gs) pc fh tk a1 a2 a3 a4 a5 a6 a7 a8 a9 a10c a11 a12 a13 a14 (show i ≤ 24 by omega) h7 h9
    obtain ⟨bn', on', fe', fg', wt', gs', a7', a9', a10', g1, g2, g3, g4⟩ := ba_pk109 (nI c) bn pd (-1) fe fg 0 gp pc fh tk a1 a2 a3 a4 a5 a6 a7 a8 a9e a10c a11 a12 a13 a14 (show i < 24 by omega) (Nat.le_refl i) hT hk ek k1 ⟨b, l1, l2, l3, l4, Or.inl ⟨rfl, l5⟩⟩
    exact ⟨bn', on', fe', fg', wt', gs', a7', a9', a10', g1, g2, g3, fun post n hJ => pk_le c i (fun z => absurd z (by omega)) (fun _ => ⟨pk_in i 25 (by omega), br_f (by rw [ei]; exact hl) (l6 _ (k2 _ (g4 post _ hJ)))⟩)⟩
theorem ba_pk67 (ct pd pc fh tk : Int32) (a1 a2 a3 a4 a5 a6 a8 a11 a12 a13 a14 : Nat → Int32) {c : Nat} (hc : c ≤ 24) (hT : ba_Tm a5) (ho : ba_ops c a1 a2 a3 a4) (h8 : ∀ s, s < 72 → a8 s = 0) : ∀ n i gs (bn on fe fg wt : Int32) (a7 a9 a10 : Nat → Int32), i ≤ c → c - i < n → gs ≤ i → ba_BB a9 → ba_PS i bn on fe fg a1 a7 a10 → ∃ b on' fe' fg' wt' gp' a7' a8' a9' a10', b ≤ 24 ∧ ba_SR a7' ∧ ba_HR a10' ∧ ba_BB a9' ∧ ba_GW a8' a10' ∧ ∀ post : St1 → Prop, post (nI c, nI b, pd, on', fe', fg', wt', gp', pc, fh, tk, a1, a2, a3, a4, a5, a6, a7', a8', a9', a10', a11, a12, a13, a14) → wX_pack_67 post n (nI i) (nI c) bn pd on fe fg wt (nI gs) pc fh tk a1 a2 a3 a4 a5 a6 a7 a8 a9 a10 a11 a12 a13 a14 := by
  intro n
  induction n with
  | zero => intro i gs bn on fe fg wt a7 a9 a10 _ h; omega
  | succ n ih =>
    intro i gs bn on fe fg wt a7 a9 a10 hi hn hgs h9 hs
    by_cases h : i = c
    · subst h
      obtain ⟨b, a10c, rfl, l2, l3, l4, l5, l6⟩ := ba_closeB (nI i) bn pd on fe fg wt (nI gs) pc fh tk a1 a2 a3 a4 a5 a6 a7 a8 a9 a10 a11 a12 a13 a14 hc hs
      obtain ⟨a8', g1, g2⟩ := ba_pk172 (nI i) (nI b) pd (-1) fe fg wt (nI gs) pc fh tk a1 a2 a3 a4 a5 a6 a7 a8 a9 a10c a11 a12 a13 a14 hc (show b ≤ 24 by omega) hT ho l3 l5 (i + 1) 0 a8 (by omega) (by omega) (ba_GW0 h8)
      exact ⟨b, _, _, _, _, _, _, a8', a9, a10c, by omega, l3, l4, h9, g1, fun post hp => pk_le i i (fun _ => l6 _ ⟨i + 1, g2 post hp⟩) (fun z => absurd z (by omega))⟩
    · have hi1 : i + 1 ≤ c := Nat.lt_of_le_of_ne hi h
      have hn1 : c - (i + 1) < n := by omega
      have hop := ho i (by omega)
      obtain ⟨k, d, f, hk, _, _, ek, _⟩ := hop
      obtain ⟨bn', on', fe', fg', wt', gs', a7', a9', a10', g1, g2, g3, g4⟩ := ba_step67 (nI c) bn pd on fe fg wt (nI gs) pc fh tk a1 a2 a3 a4 a5 a6 a7 a8 a9 a10 a11 a12 a13 a14 hc (show i < c by omega) hgs hT hk ek h9 hs
      obtain ⟨b, on2, fe2, fg2, wt2, gp2, a72, a82, a92, a102, k1, k2, k3, k4, k5, k6⟩ := ih (i + 1) gs' bn' on' fe' fg' wt' a7' a9' a10' hi1 hn1 g1 g2 g3
      exact ⟨b, on2, fe2, fg2, wt2, gp2, a72, a82, a92, a102, k1, k2, k3, k4, k5, fun post hp => g4 post n (k6 post hp)⟩
theorem ba_pk19 (ct bn pd on fe fg wt gp pc fh tk : Int32) (a1 a2 a3 a4 a5 a6 a7 a8 a9 a10 a11 a12 a13 a14 : Nat → Int32) : ∀ n i (a8 a9 : Nat → Int32), i ≤ 72 → 72 - i < n → ba_BB a9 → (∀ s, s < i → a8 s = 0) → ∃ a8' a9', ba_BB a9' ∧ (∀ s, s < 72 → a8' s = 0) ∧ ∀ post : St1 → Prop, (∃ fu, wX_pack_67 post fu 0 ct 0 pd (-1) fe fg 0 0 pc fh tk a1 a2 a3 a4 a5 a6 a7 a8' a9' a10 a11 a12 a13 a14) → wX_pack_19 post ct bn pd on fe fg wt gp pc fh tk n (nI i) a1 a2 a3 a4 a5 a6 a7 a8 a9 a10 a11 a12 a13 a14 := by
  intro n
  induction n with
  | zero => intro i a8 a9 _ h; omega
  | succ n ih =>
    intro i a8 a9 hi hn h9 h8
    have ei : (nI i).toNatClampNeg = i := nI_clamp (by omega)
    by_cases h : i = 72
    · subst h
      exact ⟨a8, a9, h9, h8, fun post hp => pk_le 72 72 (fun _ => hp) (fun z => absurd z (by omega))⟩
    · obtain ⟨a8', a9', g1, g2, g3⟩ := ih (i + 1) (upd a8 i 0) (upd a9 i 0) (by omega) (by omega) (ba_BB0 h9) (by
        intro s hs
        by_cases e : s = i
        · rw [e, pk_us]
        · rw [pk_un e]
          exact h8 s (by omega))
      exact ⟨a8', a9', g1, g2, fun post hp => pk_le 72 i (fun z => absurd z (by omega)) (fun _ => ⟨pk_in i 72 (by omega), nm_r (by rw [ei]) ⟨pk_in i 72 (by omega), nm_r (by rw [ei]) (nm_r (nI_1 i) (g3 post hp))⟩⟩)⟩
/-- a state of an assembler that the law can see -/
def ba_W (ct bn pd on fe fg wt gp pc fh tk : Int32) (a1 a2 a3 a4 a5 a6 a7 a8 a9 a10 a11 a12 a13 a14 : Nat → Int32) : Prop := ∃ c p, c ≤ 24 ∧ p ≤ 72 ∧ ct = nI c ∧ pc = nI p ∧ ba_ops c a1 a2 a3 a4 ∧ ba_Tm a5 ∧ ba_SR a7 ∧ ba_HR a10 ∧ ba_BB a9 ∧ (¬ pd = 0 → ∃ b, b ≤ 24 ∧ bn = nI b ∧ ba_GW a8 a10)
theorem ba_pack (ct bn pd on fe fg wt gp pc fh tk : Int32) (a1 a2 a3 a4 a5 a6 a7 a8 a9 a10 a11 a12 a13 a14 : Nat → Int32) (h : ba_W ct bn pd on fe fg wt gp pc fh tk a1 a2 a3 a4 a5 a6 a7 a8 a9 a10 a11 a12 a13 a14) : ∃ bn' pd' on' fe' fg' wt' gp' a6' a7' a8' a9' a10', ba_W ct bn' pd' on' fe' fg' wt' gp' pc fh tk a1 a2 a3 a4 a5 a6' a7' a8' a9' a10' a11 a12 a13 a14 ∧ ¬ pd' = 0 ∧ ∀ post : St1 → Prop, post (ct, bn', pd', on', fe', fg', wt', gp', pc, fh, tk, a1, a2, a3, a4, a5, a6', a7', a8', a9', a10', a11, a12, a13, a14) → wpX_pack post (ct, bn, pd, on, fe, fg, wt, gp, pc, fh, tk, a1, a2, a3, a4, a5, a6, a7, a8, a9, a10, a11, a12, a13, a14) := by
  have h' := h
  obtain ⟨c, p, hc, hp, rfl, rfl, ho, hT, h7, h10, h9, hk⟩ := h
  by_cases h0 : pd = 0
  · obtain ⟨a6', f1⟩ := ba_findL (nI c) bn 1 on fe fg wt gp (nI p) fh tk a1 a2 a3 a4 a5 a6 a7 a8 a9 a10 a11 a12 a13 a14 hc ho
    obtain ⟨a8', a9', g1, g2, g3⟩ := ba_pk19 (nI c) bn 1 on fe fg wt gp (nI p) fh tk a1 a2 a3 a4 a5 a6' a7 a8 a9 a10 a11 a12 a13 a14 73 0 a8 a9 (by omega) (by omega) h9 (fun s hs => absurd hs (by omega))
    obtain ⟨b, on2, fe2, fg2, wt2, gp2, a72, a82, a92, a102, k1, k2, k3, k4, k5, k6⟩ := ba_pk67 (nI c) 1 (nI p) fh tk a1 a2 a3 a4 a5 a6' a8' a11 a12 a13 a14 hc hT ho g2 (c + 1) 0 0 0 (-1) fe fg 0 a7 a9' a10 (by omega) (by omega) (by omega) g1 ⟨0, rfl, by omega, h7, h10, Or.inl ⟨rfl, fun j hj => absurd hj (by omega)⟩⟩
    exact ⟨nI b, 1, on2, fe2, fg2, wt2, gp2, a6', a72, a82, a92, a102, ⟨c, p, hc, hp, rfl, rfl, ho, hT, k2, k3, k4, fun _ => ⟨b, k1, rfl, k5⟩⟩, by decide, fun post hpo => br_t h0 (f1 _ ⟨73, g3 post ⟨c + 1, k6 post hpo⟩⟩)⟩
  · exact ⟨bn, pd, on, fe, fg, wt, gp, a6, a7, a8, a9, a10, h', h0, fun post hpo => br_f h0 hpo⟩
end
section
theorem ba_skip0 (ct bn pd on fe fg wt gp pc fh tk : Int32) (a1 a2 a3 a4 a5 a6 a7 a8 a9 a10 a11 a12 a13 a14 : Nat → Int32) {b : Nat} (hb : b ≤ 24) : ∀ n p, p ≤ 72 → 72 - p < n → ∃ p', p' ≤ 72 ∧ ∀ post : St1 → Prop, post (ct, nI b, pd, on, fe, fg, wt, gp, nI p', fh, tk, a1, a2, a3, a4, a5, a6, a7, a8, a9, a10, a11, a12, a13, a14) → wX_skipEmpty_0 post ct (nI b) pd on fe fg wt gp fh tk a1 a2 a3 a4 a5 a6 a7 a8 a9 a10 a11 a12 a13 a14 n (nI p) := by
  intro n
  induction n with
  | zero => intro p _ h; omega
  | succ n ih =>
    intro p hp hn
    by_cases h : 3 * b ≤ p
    · exact ⟨p, hp, fun post hpo => pk_le (3 * b) p (fun _ => hpo) (fun z => absurd z (by omega)) (pk_mul 3 b)⟩
    · have ep : (nI p).toNatClampNeg = p := nI_clamp (by omega)
      by_cases hw : a8 p = 0
      · obtain ⟨p', g1, g2⟩ := ih (p + 1) (by omega) (by omega)
        exact ⟨p', g1, fun post hpo => pk_le (3 * b) p (fun z => absurd z (by omega)) (fun _ => ⟨pk_in p 72 (by omega), br_t (by rw [ep]; exact hw) (nm_r (nI_1 p) (g2 post hpo))⟩) (pk_mul 3 b)⟩
      · exact ⟨p, hp, fun post hpo => pk_le (3 * b) p (fun z => absurd z (by omega)) (fun _ => ⟨pk_in p 72 (by omega), br_f (by rw [ep]; exact hw) hpo⟩) (pk_mul 3 b)⟩
theorem ba_skip (ct bn pd on fe fg wt gp pc fh tk : Int32) (a1 a2 a3 a4 a5 a6 a7 a8 a9 a10 a11 a12 a13 a14 : Nat → Int32) {b p : Nat} (hb : b ≤ 24) (hp : p ≤ 72) : ∃ p', p' ≤ 72 ∧ ∀ post : St1 → Prop, post (ct, nI b, pd, on, fe, fg, wt, gp, nI p', fh, tk, a1, a2, a3, a4, a5, a6, a7, a8, a9, a10, a11, a12, a13, a14) → wpX_skipEmpty post (ct, nI b, pd, on, fe, fg, wt, gp, nI p, fh, tk, a1, a2, a3, a4, a5, a6, a7, a8, a9, a10, a11, a12, a13, a14) := by
  obtain ⟨p', g1, g2⟩ := ba_skip0 ct bn pd on fe fg wt gp pc fh tk a1 a2 a3 a4 a5 a6 a7 a8 a9 a10 a11 a12 a13 a14 hb 73 p hp (by omega)
  exact ⟨p', g1, fun post hpo => ⟨73, g2 post hpo⟩⟩
theorem ba_skipH {post : St1 → Prop} {ct pd on fe fg wt gp fh tk : Int32} {a1 a2 a3 a4 a5 a6 a7 a8 a9 a10 a11 a12 a13 a14 : Nat → Int32} {b p : Nat} (hb : b ≤ 24) (hp : p ≤ 72) (h : 3 * b ≤ p) (hpo : post (ct, nI b, pd, on, fe, fg, wt, gp, nI p, fh, tk, a1, a2, a3, a4, a5, a6, a7, a8, a9, a10, a11, a12, a13, a14)) : wpX_skipEmpty post (ct, nI b, pd, on, fe, fg, wt, gp, nI p, fh, tk, a1, a2, a3, a4, a5, a6, a7, a8, a9, a10, a11, a12, a13, a14) :=
  ⟨1, pk_le (3 * b) p (fun _ => hpo) (fun z => absurd z (by omega)) (pk_mul 3 b)⟩
theorem ba_rb4 (ct bn pd on fe fg wt gp pc fh tk : Int32) (a1 a2 a3 a4 a5 a6 a7 a8 a9 a10 a11 a12 a13 a14 : Nat → Int32) {b p : Nat} (hb : b ≤ 24) (hp : p ≤ 72) : ∀ n s (sum : Int32), s ≤ 72 → 72 - s < n → ∃ r : Int32, ∀ post : Int32 → Prop, post r → wX_realsBefore_4 post (nI p) ct (nI b) pd on fe fg wt gp pc fh tk a1 a2 a3 a4 a5 a6 a7 a8 a9 a10 a11 a12 a13 a14 n sum (nI s) := by
  intro n
  induction n with
  | zero => intro s sum _ h; omega
  | succ n ih =>
    intro s sum hs hn
    by_cases h1 : p ≤ s
    · exact ⟨sum, fun post hpo => pk_le p s (fun _ => hpo) (fun z => absurd z (by omega))⟩
    · by_cases h2 : 3 * b ≤ s
      · exact ⟨sum, fun post hpo => pk_le p s (fun z => absurd z (by omega)) (fun _ => pk_le (3 * b) s (fun _ => hpo) (fun z => absurd z (by omega)) (pk_mul 3 b))⟩
      · have es : (nI s).toNatClampNeg = s := nI_clamp (by omega)
        by_cases hw : a8 s = 0
        · obtain ⟨r, hr⟩ := ih (s + 1) sum (by omega) (by omega)
          exact ⟨r, fun post hpo => pk_le p s (fun z => absurd z (by omega)) (fun _ => pk_le (3 * b) s (fun z => absurd z (by omega)) (fun _ => ⟨pk_in s 72 (by omega), br_t (by rw [es]; exact hw) (nm_r (nI_1 s) (hr post hpo))⟩) (pk_mul 3 b))⟩
        · obtain ⟨r, hr⟩ := ih (s + 1) (sum + 1) (by omega) (by omega)
          exact ⟨r, fun post hpo => pk_le p s (fun z => absurd z (by omega)) (fun _ => pk_le (3 * b) s (fun z => absurd z (by omega)) (fun _ => ⟨pk_in s 72 (by omega), br_f (by rw [es]; exact hw) (nm_e (nm_r (nI_1 s) (hr post hpo)))⟩) (pk_mul 3 b))⟩
theorem ba_reals (ct bn pd on fe fg wt gp pc fh tk : Int32) (a1 a2 a3 a4 a5 a6 a7 a8 a9 a10 a11 a12 a13 a14 : Nat → Int32) {b p : Nat} (hb : b ≤ 24) (hp : p ≤ 72) : ∃ r : Int32, ∀ post : Int32 → Prop, post r → wpX_realsBefore post (ct, nI b, pd, on, fe, fg, wt, gp, pc, fh, tk, a1, a2, a3, a4, a5, a6, a7, a8, a9, a10, a11, a12, a13, a14) (nI p) := by
  obtain ⟨r, hr⟩ := ba_rb4 ct bn pd on fe fg wt gp pc fh tk a1 a2 a3 a4 a5 a6 a7 a8 a9 a10 a11 a12 a13 a14 hb hp 73 0 0 (by omega) (by omega)
  exact ⟨r, fun post hpo => ⟨73, hr post hpo⟩⟩
theorem ba_jump38 (ct bn pd on fe fg wt gp pc fh tk : Int32) (a1 a2 a3 a4 a5 a6 a7 a8 a9 a10 a11 a12 a13 a14 : Nat → Int32) {b m : Nat} (hb : b ≤ 24) (hm : m < 25) (x4 : Int32) : ∃ tk' : Int32, ∀ post : St1 → Prop, post (ct, nI b, pd, on, fe, fg, wt, gp, nI (3 * m), fh, tk', a1, a2, a3, a4, a5, a6, a7, a8, a9, a10, a11, a12, a13, a14) → wX_jump_38 post (nI m) x4 ct (nI b) pd on fe fg wt gp pc fh tk a1 a2 a3 a4 a5 a6 a7 a8 a9 a10 a11 a12 a13 a14 := by
  obtain ⟨r, hr⟩ := ba_reals ct bn pd on fe fg wt gp (nI (3 * m)) fh tk a1 a2 a3 a4 a5 a6 a7 a8 a9 a10 a11 a12 a13 a14 hb (show 3 * m ≤ 72 by omega)
  by_cases h : r = x4
  · exact ⟨tk, fun post hpo => nm_r (pk_mul 3 m) (hr _ (br_t h hpo))⟩
  · exact ⟨tk + 1, fun post hpo => nm_r (pk_mul 3 m) (hr _ (br_f h (nm_e hpo)))⟩
theorem ba_jump (ct bn pd on fe fg wt gp pc fh tk : Int32) (a1 a2 a3 a4 a5 a6 a7 a8 a9 a10 a11 a12 a13 a14 : Nat → Int32) {b p m : Nat} (hb : b ≤ 24) (hp : p < 72) (hm : m < 25) (p0 p1 : Int32) : ∃ (p' : Nat) (tk' : Int32), p' ≤ 72 ∧ ∀ post : St1 → Prop, post (ct, nI b, pd, on, fe, fg, wt, gp, nI p', 1, tk', a1, a2, a3, a4, a5, a6, a7, a8, a9, a10, a11, a12, a13, a14) → wpX_jump post (ct, nI b, pd, on, fe, fg, wt, gp, nI p, fh, tk, a1, a2, a3, a4, a5, a6, a7, a8, a9, a10, a11, a12, a13, a14) p0 p1 (nI m) := by
  obtain ⟨r, hr⟩ := ba_reals ct bn pd on fe fg wt gp (nI p) fh tk a1 a2 a3 a4 a5 a6 a7 a8 a9 a10 a11 a12 a13 a14 hb (show p ≤ 72 by omega)
  obtain ⟨tk', hj⟩ := ba_jump38 ct bn pd on fe fg wt gp (nI p) 1 tk a1 a2 a3 a4 a5 a6 a7 a8 a9 a10 a11 a12 a13 a14 hb hm (r + 1)
  by_cases h9 : p0 = 9
  · by_cases h0 : p1 = 0
    · exact ⟨p + 1, tk, by omega, fun post hpo => hr _ (nm_e (br_t h9 (br_t h0 (nm_r (nI_1 p) hpo))))⟩
    · exact ⟨3 * m, tk', by omega, fun post hpo => hr _ (nm_e (br_t h9 (br_f h0 (hj post hpo))))⟩
  · exact ⟨3 * m, tk', by omega, fun post hpo => hr _ (nm_e (br_f h9 (hj post hpo)))⟩
theorem ba_kindAt {post : Int32 → Prop} {ct bn pd on fe fg wt gp pc fh tk : Int32} {a1 a2 a3 a4 a5 a6 a7 a8 a9 a10 a11 a12 a13 a14 : Nat → Int32} {q t : Nat} (hT : ba_Tm a5) (hq : q < 72) (ht : t < 6) (h10 : a10 (q / 3) = nI t) (hp : post (ba_kn ((a8 q &&& 15) - 1) (ba_un t (q % 3)))) : wpX_kindAt post (ct, bn, pd, on, fe, fg, wt, gp, pc, fh, tk, a1, a2, a3, a4, a5, a6, a7, a8, a9, a10, a11, a12, a13, a14) (nI q) := by
  have eq' : (nI q).toNatClampNeg = q := nI_clamp (by omega)
  refine ⟨pk_in q 72 hq, nm_r (e' := (a8 q &&& 15) - 1) (by rw [eq']) (ba_unitAt hT hq ht h10 ?_)⟩
  unfold ba_kn at hp
  refine br_c (fun z => ?_) (fun z => br_c (fun z2 => br_c (fun z3 => ?_) (fun z3 => ?_)) (fun z2 => br_c (fun z3 => ?_) (fun z3 => ?_)))
  · rw [if_pos z] at hp
    exact hp
  · rw [if_neg z, if_pos z2, if_pos z3] at hp
    exact hp
  · rw [if_neg z, if_pos z2, if_neg z3] at hp
    exact hp
  · rw [if_neg z, if_neg z2, if_pos z3] at hp
    exact hp
  · rw [if_neg z, if_neg z2, if_neg z3] at hp
    exact hp
theorem ba_comp (k a b : Int32) : ∃ v : Int32, ∀ post : Int32 → Prop, post v → wpX_computed post () k a b := by
  by_cases h0 : k = 0
  · exact ⟨_, fun post hp => br_t h0 hp⟩
  · by_cases h1 : k = 1
    · exact ⟨_, fun post hp => br_f h0 (br_t h1 hp)⟩
    · by_cases h2 : k = 2
      · exact ⟨_, fun post hp => br_f h0 (br_f h1 (br_t h2 hp))⟩
      · by_cases h3 : k = 3
        · exact ⟨_, fun post hp => br_f h0 (br_f h1 (br_f h2 (br_t h3 hp)))⟩
        · by_cases h4 : k = 4
          · exact ⟨_, fun post hp => br_f h0 (br_f h1 (br_f h2 (br_f h3 (br_t h4 hp))))⟩
          · exact ⟨_, fun post hp => br_f h0 (br_f h1 (br_f h2 (br_f h3 (br_f h4 hp))))⟩
theorem ba_bool {x : Int32} (h : x = 0 ∨ x = 1) : narrow .boolean (.int x) = .int x ∧ fits .boolean (.int x) = true := by
  rcases h with e | e
  · subst e
    exact ⟨rfl, rfl⟩
  · subst e
    exact ⟨rfl, rfl⟩
theorem ba_c151 {post : St1 → Prop} {ct bn pd on fe fg wt gp fh tk : Int32} {a1 a2 a3 a4 a5 a6 a7 a8 a9 a10 a11 a12 a13 a14 : Nat → Int32} {p : Nat} (hp : p < 72) (h9 : ba_BB a9) (hpo : post (ct, bn, pd, on, fe, fg, wt, gp, nI (p + 1), a9 p, tk, a1, a2, a3, a4, a5, a6, a7, a8, a9, a10, a11, a12, a13, a14)) : wX_carryOut_151 post ct bn pd on fe fg wt gp (nI p) fh tk a1 a2 a3 a4 a5 a6 a7 a8 a9 a10 a11 a12 a13 a14 := by
  have ep : (nI p).toNatClampNeg = p := nI_clamp (by omega)
  exact ⟨pk_in p 72 hp, nm_r (e' := a9 p) (by rw [ep]) ⟨(ba_bool (h9 p)).1, (ba_bool (h9 p)).2, nm_r (nI_1 p) hpo⟩⟩
theorem ba_carry (ct bn pd on fe fg wt gp pc fh tk : Int32) (a1 a2 a3 a4 a5 a6 a7 a8 a9 a10 a11 a12 a13 a14 : Nat → Int32) {b p t : Nat} (hb : b ≤ 24) (hp : p < 72) (hT : ba_Tm a5) (ht : t < 6) (h10 : a10 (p / 3) = nI t) (hg : ba_gw (a8 p) (ba_un t (p % 3))) (h9 : ba_BB a9) : ∃ (p' : Nat) (fh' tk' : Int32) (a11' a12' : Nat → Int32), p' ≤ 72 ∧ ∀ post : St1 → Prop, post (ct, nI b, pd, on, fe, fg, wt, gp, nI p', fh', tk', a1, a2, a3, a4, a5, a6, a7, a8, a9, a10, a11', a12', a13, a14) → wpX_carryOut post (ct, nI b, pd, on, fe, fg, wt, gp, nI p, fh, tk, a1, a2, a3, a4, a5, a6, a7, a8, a9, a10, a11, a12, a13, a14) := by
  have ep : (nI p).toNatClampNeg = p := nI_clamp (by omega)
  have hD : vp_in ((a8 (nI p).toNatClampNeg >>> ((4 : Int32) &&& 31)) &&& 7) 8 := pk_andIn _ 3 (by decide) (by decide)
  have hF : vp_in ((a8 (nI p).toNatClampNeg >>> ((7 : Int32) &&& 31)) &&& 7) 8 := pk_andIn _ 3 (by decide) (by decide)
  have hM : ∀ x : Int32, vp_in (x &&& 15) 16 := fun x => pk_andIn x 4 (by decide) (by decide)
  have hM7 : ∀ x : Int32, vp_in (x &&& 7) 8 := fun x => pk_andIn x 3 (by decide) (by decide)
  by_cases hk : ba_kn ((a8 p &&& 15) - 1) (ba_un t (p % 3)) < 9
  · by_cases h8 : ba_kn ((a8 p &&& 15) - 1) (ba_un t (p % 3)) = 8
    · refine ⟨p + 1, a9 p, tk, a11, upd a12 ((a13 ((a8 (nI p).toNatClampNeg >>> ((7 : Int32) &&& 31)) &&& 7).toNatClampNeg + ((a8 (nI p).toNatClampNeg >>> ((10 : Int32) &&& 31)) - 128)) &&& 15).toNatClampNeg (a13 ((a8 (nI p).toNatClampNeg >>> ((4 : Int32) &&& 31)) &&& 7).toNatClampNeg), by omega, fun post hpo => ?_⟩
      unfold wpX_carryOut
      dsimp only
      exact ba_kindAt hT hp ht h10 ⟨pk_in p 72 hp, ⟨pk_in p 72 hp, ⟨hF, nm_e ⟨pk_in p 72 hp, br_t hk (br_t h8 ⟨hD, hM _, nm_e (ba_c151 hp h9 hpo)⟩)⟩⟩⟩⟩
    · by_cases h7 : ba_kn ((a8 p &&& 15) - 1) (ba_un t (p % 3)) = 7
      · refine ⟨p + 1, a9 p, tk, upd a11 ((a8 (nI p).toNatClampNeg >>> ((4 : Int32) &&& 31)) &&& 7).toNatClampNeg (a14 ((a13 ((a8 (nI p).toNatClampNeg >>> ((7 : Int32) &&& 31)) &&& 7).toNatClampNeg + ((a8 (nI p).toNatClampNeg >>> ((10 : Int32) &&& 31)) - 128)) &&& 15).toNatClampNeg), a12, by omega, fun post hpo => ?_⟩
        unfold wpX_carryOut
        dsimp only
        exact ba_kindAt hT hp ht h10 ⟨pk_in p 72 hp, ⟨pk_in p 72 hp, ⟨hF, nm_e ⟨pk_in p 72 hp, br_t hk (br_f h8 (br_t h7 ⟨hM _, hD, nm_e (ba_c151 hp h9 hpo)⟩))⟩⟩⟩⟩
      · by_cases h6 : ba_kn ((a8 p &&& 15) - 1) (ba_un t (p % 3)) = 6
        · refine ⟨p + 1, a9 p, tk, upd a11 ((a8 (nI p).toNatClampNeg >>> ((4 : Int32) &&& 31)) &&& 7).toNatClampNeg (a13 ((a8 (nI p).toNatClampNeg >>> ((7 : Int32) &&& 31)) &&& 7).toNatClampNeg + ((a8 (nI p).toNatClampNeg >>> ((10 : Int32) &&& 31)) - 128)), a12, by omega, fun post hpo => ?_⟩
          unfold wpX_carryOut
          dsimp only
          exact ba_kindAt hT hp ht h10 ⟨pk_in p 72 hp, ⟨pk_in p 72 hp, ⟨hF, nm_e ⟨pk_in p 72 hp, br_t hk (br_f h8 (br_f h7 (br_t h6 ⟨hD, nm_e (ba_c151 hp h9 hpo)⟩)))⟩⟩⟩⟩
        · obtain ⟨v, hv⟩ := ba_comp (ba_kn ((a8 p &&& 15) - 1) (ba_un t (p % 3))) (a13 ((a8 (nI p).toNatClampNeg >>> ((7 : Int32) &&& 31)) &&& 7).toNatClampNeg) (a13 (((a8 (nI p).toNatClampNeg >>> ((10 : Int32) &&& 31)) - 128) &&& 7).toNatClampNeg)
          refine ⟨p + 1, a9 p, tk, upd a11 ((a8 (nI p).toNatClampNeg >>> ((4 : Int32) &&& 31)) &&& 7).toNatClampNeg v, a12, by omega, fun post hpo => ?_⟩
          unfold wpX_carryOut
          dsimp only
          exact ba_kindAt hT hp ht h10 ⟨pk_in p 72 hp, ⟨pk_in p 72 hp, ⟨hF, nm_e ⟨pk_in p 72 hp, br_t hk (br_f h8 (br_f h7 (br_f h6 ⟨hM7 _, hv _ ⟨hD, nm_e (ba_c151 hp h9 hpo)⟩⟩)))⟩⟩⟩⟩
  · obtain ⟨m, hm, em⟩ := hg hk
    have em' : (a8 (nI p).toNatClampNeg >>> ((10 : Int32) &&& 31)) - 128 = nI m := by rw [ep]; exact em
    obtain ⟨p', tk', j1, j2⟩ := ba_jump ct bn pd on fe fg wt gp pc fh tk a1 a2 a3 a4 a5 a6 a7 a8 a9 a10 a11 a12 a13 a14 hb hp hm (ba_kn ((a8 p &&& 15) - 1) (ba_un t (p % 3))) (a13 ((a8 (nI p).toNatClampNeg >>> ((7 : Int32) &&& 31)) &&& 7).toNatClampNeg)
    refine ⟨p', 1, tk', a11, a12, j1, fun post hpo => ?_⟩
    unfold wpX_carryOut
    dsimp only
    refine ba_kindAt hT hp ht h10 ⟨pk_in p 72 hp, ⟨pk_in p 72 hp, ⟨hF, nm_e ⟨pk_in p 72 hp, br_f hk ?_⟩⟩⟩⟩
    rw [em']
    exact j2 _ hpo
theorem ba_tp28 (ct bn pd on fe fg wt gp pc fh tk : Int32) (a1 a2 a3 a4 a5 a6 a7 a8 a9 a10 a11 a12 a13 a14 : Nat → Int32) : ∀ n i (a14 : Nat → Int32), i ≤ 16 → 16 - i < n → ∃ a14' : Nat → Int32, ∀ post : St1 → Prop, post (ct, bn, pd, on, fe, fg, wt, gp, pc, 0, tk, a1, a2, a3, a4, a5, a6, a7, a8, a9, a10, a11, a12, a13, a14') → wX_takePicture_28 post ct bn pd on fe fg wt gp pc fh tk n (nI i) a1 a2 a3 a4 a5 a6 a7 a8 a9 a10 a11 a12 a13 a14 := by
  intro n
  induction n with
  | zero => intro i a14 _ h; omega
  | succ n ih =>
    intro i a14 hi hn
    by_cases h : i = 16
    · subst h
      exact ⟨a14, fun post hpo => pk_le 16 16 (fun _ => hpo) (fun z => absurd z (by omega))⟩
    · obtain ⟨a14', h'⟩ := ih (i + 1) (upd a14 (nI i).toNatClampNeg (a12 (nI i).toNatClampNeg)) (by omega) (by omega)
      exact ⟨a14', fun post hpo => pk_le 16 i (fun z => absurd z (by omega)) (fun _ => ⟨pk_in i 16 (by omega), pk_in i 16 (by omega), nm_e (nm_r (nI_1 i) (h' post hpo))⟩)⟩
theorem ba_tp2 (ct bn pd on fe fg wt gp pc fh tk : Int32) (a1 a2 a3 a4 a5 a6 a7 a8 a9 a10 a11 a12 a13 a14 : Nat → Int32) : ∀ n i (a13 : Nat → Int32), i ≤ 8 → 8 - i < n → ∃ a13' a14' : Nat → Int32, ∀ post : St1 → Prop, post (ct, bn, pd, on, fe, fg, wt, gp, pc, 0, tk, a1, a2, a3, a4, a5, a6, a7, a8, a9, a10, a11, a12, a13', a14') → wX_takePicture_2 post ct bn pd on fe fg wt gp pc fh tk n (nI i) a1 a2 a3 a4 a5 a6 a7 a8 a9 a10 a11 a12 a13 a14 := by
  intro n
  induction n with
  | zero => intro i a13 _ h; omega
  | succ n ih =>
    intro i a13 hi hn
    by_cases h : i = 8
    · subst h
      obtain ⟨a14', h'⟩ := ba_tp28 ct bn pd on fe fg wt gp pc fh tk a1 a2 a3 a4 a5 a6 a7 a8 a9 a10 a11 a12 a13 a14 17 0 a14 (by omega) (by omega)
      exact ⟨a13, a14', fun post hpo => pk_le 8 8 (fun _ => ⟨17, h' post hpo⟩) (fun z => absurd z (by omega))⟩
    · obtain ⟨a13', a14', h'⟩ := ih (i + 1) (upd a13 (nI i).toNatClampNeg (a11 (nI i).toNatClampNeg)) (by omega) (by omega)
      exact ⟨a13', a14', fun post hpo => pk_le 8 i (fun z => absurd z (by omega)) (fun _ => ⟨pk_in i 8 (by omega), pk_in i 8 (by omega), nm_e (nm_r (nI_1 i) (h' post hpo))⟩)⟩
theorem ba_take (ct bn pd on fe fg wt gp pc fh tk : Int32) (a1 a2 a3 a4 a5 a6 a7 a8 a9 a10 a11 a12 a13 a14 : Nat → Int32) : ∃ a13' a14' : Nat → Int32, ∀ post : St1 → Prop, post (ct, bn, pd, on, fe, fg, wt, gp, pc, 0, tk, a1, a2, a3, a4, a5, a6, a7, a8, a9, a10, a11, a12, a13', a14') → wpX_takePicture post (ct, bn, pd, on, fe, fg, wt, gp, pc, fh, tk, a1, a2, a3, a4, a5, a6, a7, a8, a9, a10, a11, a12, a13, a14) := by
  obtain ⟨a13', a14', h'⟩ := ba_tp2 ct bn pd on fe fg wt gp pc fh tk a1 a2 a3 a4 a5 a6 a7 a8 a9 a10 a11 a12 a13 a14 9 0 a13 (by omega) (by omega)
  exact ⟨a13', a14', fun post hpo => ⟨9, h' post hpo⟩⟩
/-! one turn of run's loop, and n of them -/
def ba_rn (post : Int32 → St1 → Prop) (x1 : Int32) (n : Nat) (x2 x3 : Int32) (u : St1) : Prop := match u with
  | (ct, bn, pd, on, fe, fg, wt, gp, pc, fh, tk, a1, a2, a3, a4, a5, a6, a7, a8, a9, a10, a11, a12, a13, a14) => wX_run_21 post x1 n x2 x3 ct bn pd on fe fg wt gp pc fh tk a1 a2 a3 a4 a5 a6 a7 a8 a9 a10 a11 a12 a13 a14
def ba_WF (u : St1) : Prop := match u with
  | (ct, bn, pd, on, fe, fg, wt, gp, pc, fh, tk, a1, a2, a3, a4, a5, a6, a7, a8, a9, a10, a11, a12, a13, a14) => ba_W ct bn pd on fe fg wt gp pc fh tk a1 a2 a3 a4 a5 a6 a7 a8 a9 a10 a11 a12 a13 a14
def ba_WP (u : St1) : Prop := match u with
  | (ct, bn, pd, on, fe, fg, wt, gp, pc, fh, tk, a1, a2, a3, a4, a5, a6, a7, a8, a9, a10, a11, a12, a13, a14) => ba_W ct bn pd on fe fg wt gp pc fh tk a1 a2 a3 a4 a5 a6 a7 a8 a9 a10 a11 a12 a13 a14 ∧ ¬ pd = 0
def ba_H (u v : St1) : Prop := ∀ (post : Int32 → St1 → Prop) (x1 : Int32) (n : Nat) (x2 x3 : Int32), ¬ x1 ≤ x3 → post x2 v → ba_rn post x1 (n + 1) x2 x3 u
def ba_S (u v : St1) : Prop := ∀ (post : Int32 → St1 → Prop) (x1 : Int32) (n : Nat) (x2 x3 : Int32), ¬ x1 ≤ x3 → ba_rn post x1 n (x2 + 1) (x3 + 1) v → ba_rn post x1 (n + 1) x2 x3 u
theorem ba_ge {p b : Nat} (hb : b ≤ 24) (hp : p ≤ 72) (h : 3 * b ≤ p) : ¬ nI p < 3 * nI b := by
  have e : 3 * nI b = nI (3 * b) := pk_mul 3 b
  rw [e]
  exact nI_nlt h (by omega)
theorem ba_lt {p b : Nat} (hb : b ≤ 24) (h : p < 3 * b) : nI p < 3 * nI b := by
  have e : 3 * nI b = nI (3 * b) := pk_mul 3 b
  rw [e]
  exact nI_lt h (by omega)
theorem ba_runStep (u : St1) (h : ba_WP u) : (∃ v, ba_WP v ∧ ba_H u v ∧ ba_H v v) ∨ (∃ v, ba_WP v ∧ ba_S u v) := by
  obtain ⟨ct, bn, pd, on, fe, fg, wt, gp, pc, fh, tk, a1, a2, a3, a4, a5, a6, a7, a8, a9, a10, a11, a12, a13, a14⟩ := u
  obtain ⟨⟨c, p, hc, hp, rfl, rfl, ho, hT, h7, h10, h9, hk⟩, hpd⟩ := h
  obtain ⟨b, hb, rfl, hg⟩ := hk hpd
  obtain ⟨p', hp', hsk⟩ := ba_skip (nI c) (nI b) pd on fe fg wt gp (nI p) fh tk a1 a2 a3 a4 a5 a6 a7 a8 a9 a10 a11 a12 a13 a14 hb hp
  by_cases hend : 3 * b ≤ p'
  · refine Or.inl ⟨(nI c, nI b, pd, on, fe, fg, wt, gp, nI p', fh, tk, a1, a2, a3, a4, a5, a6, a7, a8, a9, a10, a11, a12, a13, a14), ⟨⟨c, p', hc, hp', rfl, rfl, ho, hT, h7, h10, h9, fun _ => ⟨b, hb, rfl, hg⟩⟩, hpd⟩, ?_, ?_⟩
    · intro post x1 n x2 x3 hx hpo
      exact br_f hx (hsk _ (br_f (ba_ge hb hp' hend) hpo))
    · intro post x1 n x2 x3 hx hpo
      exact br_f hx (ba_skipH hb hp' hend (br_f (ba_ge hb hp' hend) hpo))
  · have hlt := ba_lt hb (show p' < 3 * b by omega)
    obtain ⟨t, ht, e10⟩ := h10 (p' / 3) (by omega)
    have hgw := hg p' (by omega) t ht e10
    by_cases hf : fh = 0
    · obtain ⟨q, fh', tk', a11', a12', q1, q2⟩ := ba_carry (nI c) (nI b) pd on fe fg wt gp (nI p') fh tk a1 a2 a3 a4 a5 a6 a7 a8 a9 a10 a11 a12 a13 a14 hb (show p' < 72 by omega) hT ht e10 hgw h9
      refine Or.inr ⟨(nI c, nI b, pd, on, fe, fg, wt, gp, nI q, fh', tk', a1, a2, a3, a4, a5, a6, a7, a8, a9, a10, a11', a12', a13, a14), ⟨⟨c, q, hc, q1, rfl, rfl, ho, hT, h7, h10, h9, fun _ => ⟨b, hb, rfl, hg⟩⟩, hpd⟩, ?_⟩
      intro post x1 n x2 x3 hx hr
      exact br_f hx (hsk _ (br_t hlt (br_t hf (q2 _ (nm_e (nm_e hr))))))
    · obtain ⟨a13', a14', htp⟩ := ba_take (nI c) (nI b) pd on fe fg wt gp (nI p') fh tk a1 a2 a3 a4 a5 a6 a7 a8 a9 a10 a11 a12 a13 a14
      obtain ⟨q, fh', tk', a11', a12', q1, q2⟩ := ba_carry (nI c) (nI b) pd on fe fg wt gp (nI p') 0 tk a1 a2 a3 a4 a5 a6 a7 a8 a9 a10 a11 a12 a13' a14' hb (show p' < 72 by omega) hT ht e10 hgw h9
      refine Or.inr ⟨(nI c, nI b, pd, on, fe, fg, wt, gp, nI q, fh', tk', a1, a2, a3, a4, a5, a6, a7, a8, a9, a10, a11', a12', a13', a14'), ⟨⟨c, q, hc, q1, rfl, rfl, ho, hT, h7, h10, h9, fun _ => ⟨b, hb, rfl, hg⟩⟩, hpd⟩, ?_⟩
      intro post x1 n x2 x3 hx hr
      exact br_f hx (hsk _ (br_t hlt (br_f hf (htp _ (q2 _ (nm_e (nm_e hr)))))))
def ba_RN : Nat → St1 → Nat → St1 → Prop
  | 0, u, r, v => r = 0 ∧ v = u
  | n + 1, u, r, v => (ba_H u v ∧ ba_H v v ∧ ba_WP v ∧ r = 0) ∨ ∃ u1 r1, ba_WP u1 ∧ ba_S u u1 ∧ ba_RN n u1 r1 v ∧ r = r1 + 1
theorem ba_RNex : ∀ n u, ba_WP u → ∃ r v, r ≤ n ∧ ba_WP v ∧ ba_RN n u r v := by
  intro n
  induction n with
  | zero => intro u h; exact ⟨0, u, by omega, h, rfl, rfl⟩
  | succ n ih =>
    intro u h
    rcases ba_runStep u h with ⟨v, h1, h2, h3⟩ | ⟨v, h1, h2⟩
    · exact ⟨0, v, by omega, h1, Or.inl ⟨h2, h3, h1, rfl⟩⟩
    · obtain ⟨r, w, g1, g2, g3⟩ := ih v h1
      exact ⟨r + 1, w, by omega, g2, Or.inr ⟨v, r, h1, h2, g3, rfl⟩⟩
theorem ba_RNrun : ∀ n u r v, ba_RN n u r v → ∀ (post : Int32 → St1 → Prop) (N k d : Nat), k + n = N → N < 1000 → post (nI (d + r)) v → ba_rn post (nI N) (n + 1) (nI d) (nI k) u := by
  intro n
  induction n with
  | zero =>
    intro u r v h post N k d hN hN2 hpo
    obtain ⟨rfl, rfl⟩ := h
    obtain ⟨ct, bn, pd, on, fe, fg, wt, gp, pc, fh, tk, a1, a2, a3, a4, a5, a6, a7, a8, a9, a10, a11, a12, a13, a14⟩ := v
    exact br_t (nI_le (by omega) (by omega)) hpo
  | succ n ih =>
    intro u r v h post N k d hN hN2 hpo
    rcases h with ⟨h1, _, _, rfl⟩ | ⟨u1, r1, h1, h2, h3, rfl⟩
    · exact h1 post _ _ _ _ (nI_ge (by omega) (by omega)) hpo
    · refine h2 post _ _ _ _ (nI_ge (by omega) (by omega)) ?_
      rw [nI_1, nI_1]
      refine ih u1 r1 v h3 post N (k + 1) (d + 1) (by omega) hN2 ?_
      rw [show d + 1 + r1 = d + (r1 + 1) by omega]
      exact hpo
def ba_P (u v : St1) : Prop := ∀ post : St1 → Prop, post v → wpX_pack post u
theorem ba_PP (u : St1) (h : ba_WP u) : ba_P u u := by
  obtain ⟨ct, bn, pd, on, fe, fg, wt, gp, pc, fh, tk, a1, a2, a3, a4, a5, a6, a7, a8, a9, a10, a11, a12, a13, a14⟩ := u
  exact fun post hpo => br_f h.2 hpo
theorem ba_run {post : Int32 → St1 → Prop} {u up : St1} {n : Nat} (hn : n ≤ 400) (hP : ba_P u up) (h : ∃ fu, ba_rn post (nI n) fu 0 0 up) : wpX_run post u (nI n) := by
  obtain ⟨ct, bn, pd, on, fe, fg, wt, gp, pc, fh, tk, a1, a2, a3, a4, a5, a6, a7, a8, a9, a10, a11, a12, a13, a14⟩ := u
  obtain ⟨ct_w, bn_w, pd_w, on_w, fe_w, fg_w, wt_w, gp_w, pc_w, fh_w, tk_w, a1_w, a2_w, a3_w, a4_w, a5_w, a6_w, a7_w, a8_w, a9_w, a10_w, a11_w, a12_w, a13_w, a14_w⟩ := up
  exact br_f (nI_pos (by omega)) (br_t (nI_le (b := 400) hn (by omega)) (hP _ h))
def ba_R1 (u : St1) (r : Int32) (v : St1) : Prop := ∀ post : Int32 → St1 → Prop, post r v → wpX_run post u 1
theorem ba_R1H {u up v : St1} (hP : ba_P u up) (h : ba_H up v) : ba_R1 u (nI 0) v :=
  fun post hpo => ba_run (n := 1) (by omega) hP ⟨1, h post _ 0 _ _ (by decide) hpo⟩
theorem ba_R1S {u up v : St1} (hP : ba_P u up) (h : ba_S up v) : ba_R1 u (nI 1) v :=
  fun post hpo => ba_run (n := 1) (by omega) hP ⟨2, h post _ 1 _ _ (by decide) (by
    obtain ⟨ct, bn, pd, on, fe, fg, wt, gp, pc, fh, tk, a1, a2, a3, a4, a5, a6, a7, a8, a9, a10, a11, a12, a13, a14⟩ := v
    exact br_t (by decide) hpo)⟩
def ba_CH : Nat → St1 → Nat → St1 → Prop
  | 0, u, r, v => r = 0 ∧ v = u
  | n + 1, u, r, v => ∃ r0 r1 u1, ba_R1 u (nI r0) u1 ∧ ba_CH n u1 r1 v ∧ r = r0 + r1
theorem ba_CHh {v : St1} (hv : ba_WP v) (h : ba_H v v) : ∀ n, ba_CH n v 0 v := by
  intro n
  induction n with
  | zero => exact ⟨rfl, rfl⟩
  | succ n ih => exact ⟨0, 0, v, ba_R1H (ba_PP v hv) h, ih, rfl⟩
theorem ba_RNCH : ∀ n u up r v, ba_P u up → ba_RN n up r v → (0 < n ∨ u = up) → ba_CH n u r v := by
  intro n
  induction n with
  | zero =>
    intro u up r v hP h hz
    obtain ⟨rfl, rfl⟩ := h
    rcases hz with z | z
    · omega
    · exact ⟨rfl, z.symm⟩
  | succ n ih =>
    intro u up r v hP h _
    rcases h with ⟨h1, h2, h3, rfl⟩ | ⟨u1, r1, h1, h2, h3, rfl⟩
    · exact ⟨0, 0, v, ba_R1H hP h1, ba_CHh h3 h2 n, rfl⟩
    · exact ⟨1, r1, u1, ba_R1S hP h2, ih u1 u1 r1 v (ba_PP u1 h1) h3 (Or.inr rfl), by omega⟩
end
section
theorem ba_placeV (v : St1) (h : ba_WP v) : ∃ r : Int32, ∀ u, ba_P u v → ∀ post : Int32 → St1 → Prop, post r v → wpX_place post u := by
  obtain ⟨ct, bn, pd, on, fe, fg, wt, gp, pc, fh, tk, a1, a2, a3, a4, a5, a6, a7, a8, a9, a10, a11, a12, a13, a14⟩ := v
  obtain ⟨⟨c, p, hc, hp, rfl, rfl, ho, hT, h7, h10, h9, hk⟩, hpd⟩ := h
  obtain ⟨b, hb, rfl, hg⟩ := hk hpd
  obtain ⟨r, hr⟩ := ba_reals (nI c) (nI b) pd on fe fg wt gp (nI p) fh tk a1 a2 a3 a4 a5 a6 a7 a8 a9 a10 a11 a12 a13 a14 hb hp
  refine ⟨r, fun u hP post hpo => ?_⟩
  obtain ⟨ct_w, bn_w, pd_w, on_w, fe_w, fg_w, wt_w, gp_w, pc_w, fh_w, tk_w, a1_w, a2_w, a3_w, a4_w, a5_w, a6_w, a7_w, a8_w, a9_w, a10_w, a11_w, a12_w, a13_w, a14_w⟩ := u
  unfold wpX_place
  dsimp only
  exact hP _ (hr _ hpo)
theorem ba_overV (v : St1) (h : ba_WP v) : ∃ (r : Int32) (v' : St1), ba_WP v' ∧ ∀ post : Int32 → St1 → Prop, post r v' → wpX_over post v := by
  have hPP := ba_PP v h
  obtain ⟨ct, bn, pd, on, fe, fg, wt, gp, pc, fh, tk, a1, a2, a3, a4, a5, a6, a7, a8, a9, a10, a11, a12, a13, a14⟩ := v
  obtain ⟨⟨c, p, hc, hp, rfl, rfl, ho, hT, h7, h10, h9, hk⟩, hpd⟩ := h
  obtain ⟨b, hb, rfl, hg⟩ := hk hpd
  obtain ⟨p', hp', hsk⟩ := ba_skip (nI c) (nI b) pd on fe fg wt gp (nI p) fh tk a1 a2 a3 a4 a5 a6 a7 a8 a9 a10 a11 a12 a13 a14 hb hp
  have hW : ba_WP (nI c, nI b, pd, on, fe, fg, wt, gp, nI p', fh, tk, a1, a2, a3, a4, a5, a6, a7, a8, a9, a10, a11, a12, a13, a14) := ⟨⟨c, p', hc, hp', rfl, rfl, ho, hT, h7, h10, h9, fun _ => ⟨b, hb, rfl, hg⟩⟩, hpd⟩
  by_cases hend : 3 * b ≤ p'
  · refine ⟨1, _, hW, fun post hpo => ?_⟩
    unfold wpX_over
    dsimp only
    exact hPP _ (hsk _ (br_f (ba_ge hb hp' hend) hpo))
  · refine ⟨0, _, hW, fun post hpo => ?_⟩
    unfold wpX_over
    dsimp only
    exact hPP _ (hsk _ (br_t (ba_lt hb (by omega)) hpo))
theorem ba_cell {post : Int32 → Prop} {ct bn pd on fe fg wt gp pc fh tk : Int32} {a1 a2 a3 a4 a5 a6 a7 a8 a9 a10 a11 a12 a13 a14 : Nat → Int32} {i : Nat} (hi : i < 16) (hp : post (a12 i)) : wpX_cell post (ct, bn, pd, on, fe, fg, wt, gp, pc, fh, tk, a1, a2, a3, a4, a5, a6, a7, a8, a9, a10, a11, a12, a13, a14) (nI i) :=
  br_f (nI_pos (by omega)) (br_t (nI_le (b := 15) (by omega) (by decide)) ⟨pk_in i 16 hi, by rw [nI_clamp (show i < 2 ^ 31 by omega)]; exact hp⟩)
theorem ba_reg {post : Int32 → Prop} {ct bn pd on fe fg wt gp pc fh tk : Int32} {a1 a2 a3 a4 a5 a6 a7 a8 a9 a10 a11 a12 a13 a14 : Nat → Int32} {i : Nat} (hi : i < 8) (hp : post (a11 i)) : wpX_register post (ct, bn, pd, on, fe, fg, wt, gp, pc, fh, tk, a1, a2, a3, a4, a5, a6, a7, a8, a9, a10, a11, a12, a13, a14) (nI i) :=
  br_f (nI_pos (by omega)) (br_t (nI_le (b := 7) (by omega) (by decide)) ⟨pk_in i 8 hi, by rw [nI_clamp (show i < 2 ^ 31 by omega)]; exact hp⟩)
def ba_cat (u v : St1) : St3 := match u with
  | (ct, bn, pd, on, fe, fg, wt, gp, pc, fh, tk, a1, a2, a3, a4, a5, a6, a7, a8, a9, a10, a11, a12, a13, a14) => match v with
    | (ct_w, bn_w, pd_w, on_w, fe_w, fg_w, wt_w, gp_w, pc_w, fh_w, tk_w, a1_w, a2_w, a3_w, a4_w, a5_w, a6_w, a7_w, a8_w, a9_w, a10_w, a11_w, a12_w, a13_w, a14_w) => (ct, bn, pd, on, fe, fg, wt, gp, pc, fh, tk, a1, a2, a3, a4, a5, a6, a7, a8, a9, a10, a11, a12, a13, a14, ct_w, bn_w, pd_w, on_w, fe_w, fg_w, wt_w, gp_w, pc_w, fh_w, tk_w, a1_w, a2_w, a3_w, a4_w, a5_w, a6_w, a7_w, a8_w, a9_w, a10_w, a11_w, a12_w, a13_w, a14_w)
def ba_rc (u v : St1) : Prop := match u with
  | (ct, bn, pd, on, fe, fg, wt, gp, pc, fh, tk, a1, a2, a3, a4, a5, a6, a7, a8, a9, a10, a11, a12, a13, a14) => match v with
    | (ct_w, bn_w, pd_w, on_w, fe_w, fg_w, wt_w, gp_w, pc_w, fh_w, tk_w, a1_w, a2_w, a3_w, a4_w, a5_w, a6_w, a7_w, a8_w, a9_w, a10_w, a11_w, a12_w, a13_w, a14_w) => a11_w = a11 ∧ a12_w = a12
def ba_p12 (post : Int32 → St3 → Prop) (x2 x3 : Int32) (n : Nat) (x4 x5 : Int32) (u v : St1) : Prop := match u with
  | (ct, bn, pd, on, fe, fg, wt, gp, pc, fh, tk, a1, a2, a3, a4, a5, a6, a7, a8, a9, a10, a11, a12, a13, a14) => match v with
    | (ct_w, bn_w, pd_w, on_w, fe_w, fg_w, wt_w, gp_w, pc_w, fh_w, tk_w, a1_w, a2_w, a3_w, a4_w, a5_w, a6_w, a7_w, a8_w, a9_w, a10_w, a11_w, a12_w, a13_w, a14_w) => wL_portions_12 post x2 x3 n x4 x5 ct bn pd on fe fg wt gp pc fh tk a1 a2 a3 a4 a5 a6 a7 a8 a9 a10 a11 a12 a13 a14 ct_w bn_w pd_w on_w fe_w fg_w wt_w gp_w pc_w fh_w tk_w a1_w a2_w a3_w a4_w a5_w a6_w a7_w a8_w a9_w a10_w a11_w a12_w a13_w a14_w
theorem ba_p12CH : ∀ n i s ub r v, ba_CH n ub r v → ∀ (post : Int32 → St3 → Prop) (x3 : Int32) (N f : Nat) (ua : St1), i + n = N → N ≤ 63 → ba_p12 post (nI N) x3 f (nI (s + r)) (nI N) ua v → ba_p12 post (nI N) x3 (f + n) (nI s) (nI i) ua ub := by
  intro n
  induction n with
  | zero =>
    intro i s ub r v h post x3 N f ua hN hN2 hp
    obtain ⟨rfl, rfl⟩ := h
    have e : i = N := by omega
    subst e
    exact hp
  | succ n ih =>
    intro i s ub r v h post x3 N f ua hN hN2 hp
    obtain ⟨r0, r1, u1, h1, h2, rfl⟩ := h
    have IH := ih (i + 1) (s + r0) u1 r1 v h2 post x3 N f ua (by omega) hN2 (by rw [Nat.add_assoc]; exact hp)
    obtain ⟨ct, bn, pd, on, fe, fg, wt, gp, pc, fh, tk, a1, a2, a3, a4, a5, a6, a7, a8, a9, a10, a11, a12, a13, a14⟩ := ua
    obtain ⟨ct_w, bn_w, pd_w, on_w, fe_w, fg_w, wt_w, gp_w, pc_w, fh_w, tk_w, a1_w, a2_w, a3_w, a4_w, a5_w, a6_w, a7_w, a8_w, a9_w, a10_w, a11_w, a12_w, a13_w, a14_w⟩ := ub
    obtain ⟨ct_x, bn_x, pd_x, on_x, fe_x, fg_x, wt_x, gp_x, pc_x, fh_x, tk_x, a1_x, a2_x, a3_x, a4_x, a5_x, a6_x, a7_x, a8_x, a9_x, a10_x, a11_x, a12_x, a13_x, a14_x⟩ := u1
    show ba_p12 post (nI N) x3 ((f + n) + 1) (nI s) (nI i) _ _
    exact pk_le 64 i (fun z => absurd z (by omega)) (fun _ => pk_le N i (fun z => absurd z (by omega)) (fun _ => h1 _ (nm_r (nI_add s r0) (nm_r (nI_1 i) IH))))
theorem ba_p12idle {post : Int32 → St3 → Prop} {x3 x4 : Int32} {N f : Nat} {ua v : St1} (hN : N ≤ 63) (hp : ba_p12 post (nI N) x3 f x4 (nI 64) ua v) : ∀ k i, i + k = 64 → N ≤ i → ba_p12 post (nI N) x3 (f + k) x4 (nI i) ua v := by
  intro k
  induction k with
  | zero =>
    intro i hi _
    have e : i = 64 := by omega
    subst e
    exact hp
  | succ k ih =>
    intro i hi hn
    have IH := ih (i + 1) (by omega) (by omega)
    obtain ⟨ct, bn, pd, on, fe, fg, wt, gp, pc, fh, tk, a1, a2, a3, a4, a5, a6, a7, a8, a9, a10, a11, a12, a13, a14⟩ := ua
    obtain ⟨ct_w, bn_w, pd_w, on_w, fe_w, fg_w, wt_w, gp_w, pc_w, fh_w, tk_w, a1_w, a2_w, a3_w, a4_w, a5_w, a6_w, a7_w, a8_w, a9_w, a10_w, a11_w, a12_w, a13_w, a14_w⟩ := v
    show ba_p12 post (nI N) x3 ((f + k) + 1) x4 (nI i) _ _
    exact pk_le 64 i (fun z => absurd z (by omega)) (fun _ => pk_le N i (fun _ => nm_r (nI_1 i) IH) (fun z => absurd z (by omega)))
theorem ba_p85 {post : Int32 → St3 → Prop} (ct bn pd on fe fg wt gp pc fh tk : Int32) (a1 a2 a3 a4 a5 a6 a7 a8 a9 a10 a11 a12 a13 a14 : Nat → Int32) (ct_w bn_w pd_w on_w fe_w fg_w wt_w gp_w pc_w fh_w tk_w : Int32) (a1_w a2_w a3_w a4_w a5_w a6_w a7_w a8_w a9_w a10_w a13_w a14_w : Nat → Int32) {rp ro : Int32} {v v' : St1} (hPa : ba_P (ct, bn, pd, on, fe, fg, wt, gp, pc, fh, tk, a1, a2, a3, a4, a5, a6, a7, a8, a9, a10, a11, a12, a13, a14) v) (hPb : ba_P (ct_w, bn_w, pd_w, on_w, fe_w, fg_w, wt_w, gp_w, pc_w, fh_w, tk_w, a1_w, a2_w, a3_w, a4_w, a5_w, a6_w, a7_w, a8_w, a9_w, a10_w, a11, a12, a13_w, a14_w) v) (hpl : ∀ u, ba_P u v → ∀ post : Int32 → St1 → Prop, post rp v → wpX_place post u) (hov : ∀ post : Int32 → St1 → Prop, post ro v' → wpX_over post v) (hpo : post 1 (ba_cat v' v')) : ∀ n i, i ≤ 16 → 16 - i < n → wL_portions_85 post ct bn pd on fe fg wt gp pc fh tk a1 a2 a3 a4 a5 a6 a7 a8 a9 a10 a11 a12 a13 a14 ct_w bn_w pd_w on_w fe_w fg_w wt_w gp_w pc_w fh_w tk_w a1_w a2_w a3_w a4_w a5_w a6_w a7_w a8_w a9_w a10_w a11 a12 a13_w a14_w n (nI i) := by
  intro n
  induction n with
  | zero => intro i _ h; omega
  | succ n ih =>
    intro i hi hn
    by_cases h : i = 16
    · subst h
      obtain ⟨ct_y, bn_y, pd_y, on_y, fe_y, fg_y, wt_y, gp_y, pc_y, fh_y, tk_y, a1_y, a2_y, a3_y, a4_y, a5_y, a6_y, a7_y, a8_y, a9_y, a10_y, a11_y, a12_y, a13_y, a14_y⟩ := v
      obtain ⟨ct_z, bn_z, pd_z, on_z, fe_z, fg_z, wt_z, gp_z, pc_z, fh_z, tk_z, a1_z, a2_z, a3_z, a4_z, a5_z, a6_z, a7_z, a8_z, a9_z, a10_z, a11_z, a12_z, a13_z, a14_z⟩ := v'
      exact pk_le 16 16 (fun _ => hpl _ hPa _ (hpl _ hPb _ (br_t rfl (br_t rfl (hov _ (hov _ (br_t rfl hpo))))))) (fun z => absurd z (by omega))
    · exact pk_le 16 i (fun z => absurd z (by omega)) (fun _ => ba_cell (by omega) (ba_cell (by omega) (br_t rfl (nm_r (nI_1 i) (ih (i + 1) (by omega) (by omega))))))
theorem ba_p52 {post : Int32 → St3 → Prop} (ct bn pd on fe fg wt gp pc fh tk : Int32) (a1 a2 a3 a4 a5 a6 a7 a8 a9 a10 a11 a12 a13 a14 : Nat → Int32) (ct_w bn_w pd_w on_w fe_w fg_w wt_w gp_w pc_w fh_w tk_w : Int32) (a1_w a2_w a3_w a4_w a5_w a6_w a7_w a8_w a9_w a10_w a13_w a14_w : Nat → Int32) {rp ro : Int32} {v v' : St1} (hPa : ba_P (ct, bn, pd, on, fe, fg, wt, gp, pc, fh, tk, a1, a2, a3, a4, a5, a6, a7, a8, a9, a10, a11, a12, a13, a14) v) (hPb : ba_P (ct_w, bn_w, pd_w, on_w, fe_w, fg_w, wt_w, gp_w, pc_w, fh_w, tk_w, a1_w, a2_w, a3_w, a4_w, a5_w, a6_w, a7_w, a8_w, a9_w, a10_w, a11, a12, a13_w, a14_w) v) (hpl : ∀ u, ba_P u v → ∀ post : Int32 → St1 → Prop, post rp v → wpX_place post u) (hov : ∀ post : Int32 → St1 → Prop, post ro v' → wpX_over post v) (hpo : post 1 (ba_cat v' v')) : ∀ n i, i ≤ 8 → 8 - i < n → wL_portions_52 post ct bn pd on fe fg wt gp pc fh tk a1 a2 a3 a4 a5 a6 a7 a8 a9 a10 a11 a12 a13 a14 ct_w bn_w pd_w on_w fe_w fg_w wt_w gp_w pc_w fh_w tk_w a1_w a2_w a3_w a4_w a5_w a6_w a7_w a8_w a9_w a10_w a11 a12 a13_w a14_w n (nI i) := by
  intro n
  induction n with
  | zero => intro i _ h; omega
  | succ n ih =>
    intro i hi hn
    by_cases h : i = 8
    · subst h
      exact pk_le 8 8 (fun _ => ⟨17, ba_p85 ct bn pd on fe fg wt gp pc fh tk a1 a2 a3 a4 a5 a6 a7 a8 a9 a10 a11 a12 a13 a14 ct_w bn_w pd_w on_w fe_w fg_w wt_w gp_w pc_w fh_w tk_w a1_w a2_w a3_w a4_w a5_w a6_w a7_w a8_w a9_w a10_w a13_w a14_w hPa hPb hpl hov hpo 17 0 (by omega) (by omega)⟩) (fun z => absurd z (by omega))
    · exact pk_le 8 i (fun z => absurd z (by omega)) (fun _ => ba_reg (by omega) (ba_reg (by omega) (br_t rfl (nm_r (nI_1 i) (ih (i + 1) (by omega) (by omega))))))
theorem ba_p12end {post : Int32 → St3 → Prop} {x2 x3 : Int32} {ua ub : St1} {rp ro : Int32} {v v' : St1} (hrc : ba_rc ua ub) (hPa : ba_P ua v) (hPb : ba_P ub v) (hpl : ∀ u, ba_P u v → ∀ post : Int32 → St1 → Prop, post rp v → wpX_place post u) (hov : ∀ post : Int32 → St1 → Prop, post ro v' → wpX_over post v) (hpo : post 1 (ba_cat v' v')) : ba_p12 post x2 x3 1 x3 (nI 64) ua ub := by
  obtain ⟨ct, bn, pd, on, fe, fg, wt, gp, pc, fh, tk, a1, a2, a3, a4, a5, a6, a7, a8, a9, a10, a11, a12, a13, a14⟩ := ua
  obtain ⟨ct_w, bn_w, pd_w, on_w, fe_w, fg_w, wt_w, gp_w, pc_w, fh_w, tk_w, a1_w, a2_w, a3_w, a4_w, a5_w, a6_w, a7_w, a8_w, a9_w, a10_w, a11_w, a12_w, a13_w, a14_w⟩ := ub
  obtain ⟨rfl, rfl⟩ := hrc
  exact pk_le 64 64 (fun _ => br_t rfl ⟨9, ba_p52 ct bn pd on fe fg wt gp pc fh tk a1 a2 a3 a4 a5 a6 a7 a8 a9 a10 a11_w a12_w a13 a14 ct_w bn_w pd_w on_w fe_w fg_w wt_w gp_w pc_w fh_w tk_w a1_w a2_w a3_w a4_w a5_w a6_w a7_w a8_w a9_w a10_w a13_w a14_w hPa hPb hpl hov hpo 9 0 (by omega) (by omega)⟩) (fun z => absurd z (by omega))
theorem ba_portions (u : St1) (hW : ba_WF u) {N : Nat} (hN : N ≤ 63) : ∃ v', ba_WP v' ∧ ∀ post : Int32 → St3 → Prop, post 1 (ba_cat v' v') → wpL_portions post (ba_cat u u) (nI N) := by
  obtain ⟨ct, bn, pd, on, fe, fg, wt, gp, pc, fh, tk, a1, a2, a3, a4, a5, a6, a7, a8, a9, a10, a11, a12, a13, a14⟩ := u
  obtain ⟨bn', pd', on', fe', fg', wt', gp', a6', a7', a8', a9', a10', hW', hpd', hP⟩ := ba_pack ct bn pd on fe fg wt gp pc fh tk a1 a2 a3 a4 a5 a6 a7 a8 a9 a10 a11 a12 a13 a14 hW
  have hWP : ba_WP (ct, bn', pd', on', fe', fg', wt', gp', pc, fh, tk, a1, a2, a3, a4, a5, a6', a7', a8', a9', a10', a11, a12, a13, a14) := ⟨hW', hpd'⟩
  obtain ⟨r, v, hr, hv, hRN⟩ := ba_RNex N _ hWP
  obtain ⟨rp, hpl⟩ := ba_placeV v hv
  obtain ⟨ro, v', hv', hov⟩ := ba_overV v hv
  refine ⟨v', hv', fun post hpo => ?_⟩
  have key : ∃ fu, ba_p12 post (nI N) (nI r) fu (nI 0) (nI 0) v (ct, bn, pd, on, fe, fg, wt, gp, pc, fh, tk, a1, a2, a3, a4, a5, a6, a7, a8, a9, a10, a11, a12, a13, a14) := by
    by_cases h0 : N = 0
    · subst h0
      obtain ⟨rfl, rfl⟩ := hRN
      exact ⟨1 + 64, ba_p12idle (by omega) (ba_p12end (x3 := nI 0) (ub := (ct, bn, pd, on, fe, fg, wt, gp, pc, fh, tk, a1, a2, a3, a4, a5, a6, a7, a8, a9, a10, a11, a12, a13, a14)) ⟨rfl, rfl⟩ (ba_PP _ hWP) hP hpl hov hpo) 64 0 (by omega) (by omega)⟩
    · have hCH := ba_RNCH N (ct, bn, pd, on, fe, fg, wt, gp, pc, fh, tk, a1, a2, a3, a4, a5, a6, a7, a8, a9, a10, a11, a12, a13, a14) _ r v hP hRN (Or.inl (by omega))
      have hrc : ba_rc v v := by
        obtain ⟨ct_w, bn_w, pd_w, on_w, fe_w, fg_w, wt_w, gp_w, pc_w, fh_w, tk_w, a1_w, a2_w, a3_w, a4_w, a5_w, a6_w, a7_w, a8_w, a9_w, a10_w, a11_w, a12_w, a13_w, a14_w⟩ := v
        exact ⟨rfl, rfl⟩
      have E := ba_p12idle hN (ba_p12end (x2 := nI N) (x3 := nI r) hrc (ba_PP v hv) (ba_PP v hv) hpl hov hpo) (64 - N) N (by omega) (by omega)
      rw [← Nat.zero_add r] at E
      exact ⟨_, ba_p12CH N 0 0 (ct, bn, pd, on, fe, fg, wt, gp, pc, fh, tk, a1, a2, a3, a4, a5, a6, a7, a8, a9, a10, a11, a12, a13, a14) r v hCH post (nI r) N _ v (by omega) hN (by rw [Nat.zero_add] at E ⊢; exact E)⟩
  have R := ba_RNrun N _ r v hRN
  unfold ba_cat wpL_portions
  dsimp only
  refine ba_run (u := (ct, bn, pd, on, fe, fg, wt, gp, pc, fh, tk, a1, a2, a3, a4, a5, a6, a7, a8, a9, a10, a11, a12, a13, a14)) (by omega) hP ⟨N + 1, R _ N 0 0 (by omega) (by omega) ?_⟩
  rw [Nat.zero_add]
  obtain ⟨ct_w, bn_w, pd_w, on_w, fe_w, fg_w, wt_w, gp_w, pc_w, fh_w, tk_w, a1_w, a2_w, a3_w, a4_w, a5_w, a6_w, a7_w, a8_w, a9_w, a10_w, a11_w, a12_w, a13_w, a14_w⟩ := v
  exact key
end
section
/-- a method that answers and leaves a good state -/
def ba_M (wp : (Int32 → St1 → Prop) → Prop) : Prop := ∃ (r : Int32) (u' : St1), ba_WF u' ∧ ∀ post : Int32 → St1 → Prop, post r u' → wp post
theorem ba_Wch (ct bn pd on fe fg wt gp pc fh tk : Int32) (a1 a2 a3 a4 a5 a6 a7 a8 a9 a10 a11 a12 a13 a14 : Nat → Int32) {c : Nat} (hc : c ≤ 24) (ho : ba_ops c a1 a2 a3 a4) (h : ba_W ct bn pd on fe fg wt gp pc fh tk a1 a2 a3 a4 a5 a6 a7 a8 a9 a10 a11 a12 a13 a14) (a1' a2' a3' a4' : Nat → Int32) (ho' : ba_ops c a1' a2' a3' a4') : ba_W (nI c) bn 0 on fe fg wt gp 0 1 0 a1' a2' a3' a4' a5 a6 a7 a8 a9 a10 a11 a12 a13 a14 := by
  obtain ⟨_, _, _, _, _, _, _, hT, h7, h10, h9, _⟩ := h
  exact ⟨c, 0, hc, by omega, rfl, rfl, ho', hT, h7, h10, h9, fun z => absurd rfl z⟩
theorem ba_e83 (ct bn pd on fe fg wt gp pc fh tk : Int32) (a1 a2 a3 a4 a5 a6 a7 a8 a9 a10 a11 a12 a13 a14 : Nat → Int32) (x1 x2 x3 x4 x5 z0 : Int32) (h : ba_W ct bn pd on fe fg wt gp pc fh tk a1 a2 a3 a4 a5 a6 a7 a8 a9 a10 a11 a12 a13 a14) (hop : ¬ x4 < x5 → x4 ≤ z0 → ba_op x1 x2 x3 x4) : ba_M (fun post => wX_emit_83 post x1 x2 x3 x4 x5 z0 ct bn pd on fe fg wt gp pc fh tk a1 a2 a3 a4 a5 a6 a7 a8 a9 a10 a11 a12 a13 a14) := by
  have h' := h
  obtain ⟨c, p, hc, hp, rfl, rfl, ho, hT, h7, h10, h9, hk⟩ := h
  have ec : (nI c).toNatClampNeg = c := nI_clamp (by omega)
  by_cases g1 : x4 < x5
  · exact ⟨-3, (nI c, bn, pd, on, fe, fg, wt, gp, nI p, fh, tk, a1, a2, a3, a4, a5, a6, a7, a8, a9, a10, a11, a12, a13, a14), h', fun post hpo => br_t g1 hpo⟩
  · by_cases g2 : x4 ≤ z0
    · by_cases g3 : c = 24
      · subst g3
        exact ⟨-4, (nI 24, bn, pd, on, fe, fg, wt, gp, nI p, fh, tk, a1, a2, a3, a4, a5, a6, a7, a8, a9, a10, a11, a12, a13, a14), h', fun post hpo => br_f g1 (br_t g2 (br_t rfl hpo))⟩
      · have hc1 : c < 24 := by omega
        refine ⟨nI (c + 1) - 1, (nI (c + 1), bn, 0, on, fe, fg, wt, gp, 0, 1, 0, upd a1 c x1, upd a2 c x2, upd a3 c x3, upd a4 c x4, a5, a6, a7, a8, a9, a10, a11, a12, a13, a14), ⟨c + 1, 0, by omega, by omega, rfl, rfl, ba_opsU ho (hop g1 g2), hT, h7, h10, h9, fun z => absurd rfl z⟩, fun post hpo => ?_⟩
        refine br_f g1 (br_t g2 (pk_eq c 24 (fun z => absurd z g3) (fun _ => ?_)))
        rw [ec]
        exact ⟨pk_in c 24 hc1, nm_e ⟨pk_in c 24 hc1, nm_e ⟨pk_in c 24 hc1, nm_e ⟨pk_in c 24 hc1, nm_e (nm_r (nI_1 c) hpo)⟩⟩⟩⟩
    · exact ⟨-3, (nI c, bn, pd, on, fe, fg, wt, gp, nI p, fh, tk, a1, a2, a3, a4, a5, a6, a7, a8, a9, a10, a11, a12, a13, a14), h', fun post hpo => br_f g1 (br_f g2 hpo)⟩
theorem ba_mkop {k d f : Nat} {x4 : Int32} (hk : k < 11) (hd : d < 8) (hf : f < 8) (h : 9 ≤ k → ∃ sn : Nat, sn < 25 ∧ x4 = nI sn) : ba_op (nI k) (nI d) (nI f) x4 := ⟨k, d, f, hk, hd, hf, rfl, rfl, rfl, h⟩
theorem ba_e68 (ct bn pd on fe fg wt gp pc fh tk : Int32) (a1 a2 a3 a4 a5 a6 a7 a8 a9 a10 a11 a12 a13 a14 : Nat → Int32) {k d f : Nat} (x4 x5 z0 : Int32) (h : ba_W ct bn pd on fe fg wt gp pc fh tk a1 a2 a3 a4 a5 a6 a7 a8 a9 a10 a11 a12 a13 a14) (hk : k < 11) (hd : d < 8) (hf : f < 8) (h9 : 9 ≤ k → x5 = 0) : ba_M (fun post => wX_emit_68 post (nI k) (nI d) (nI f) x4 x5 z0 ct bn pd on fe fg wt gp pc fh tk a1 a2 a3 a4 a5 a6 a7 a8 a9 a10 a11 a12 a13 a14) := by
  by_cases g : k < 9
  · obtain ⟨r, u', h1, h2⟩ := ba_e83 ct bn pd on fe fg wt gp pc fh tk a1 a2 a3 a4 a5 a6 a7 a8 a9 a10 a11 a12 a13 a14 (nI k) (nI d) (nI f) x4 x5 z0 h (fun _ _ => ba_mkop hk hd hf (fun z => absurd z (by omega)))
    exact ⟨r, u', h1, fun post hpo => pk_lt k 9 (fun _ => h2 post hpo) (fun z => absurd z (by omega))⟩
  · have e0 := h9 (by omega)
    subst e0
    obtain ⟨r, u', h1, h2⟩ := ba_e83 ct bn pd on fe fg wt gp pc fh tk a1 a2 a3 a4 a5 a6 a7 a8 a9 a10 a11 a12 a13 a14 (nI k) (nI d) (nI f) x4 0 24 h (fun z1 z2 => ba_mkop hk hd hf (fun _ => by
      obtain ⟨j, hj, e⟩ := nI_of2 (M := 24) (n := 24) (by decide) z1 z2
      exact ⟨j, by omega, e⟩))
    exact ⟨r, u', h1, fun post hpo => pk_lt k 9 (fun z => absurd z (by omega)) (fun _ => h2 post hpo)⟩
theorem ba_e53 (ct bn pd on fe fg wt gp pc fh tk : Int32) (a1 a2 a3 a4 a5 a6 a7 a8 a9 a10 a11 a12 a13 a14 : Nat → Int32) {k d f : Nat} (x4 x5 : Int32) (h : ba_W ct bn pd on fe fg wt gp pc fh tk a1 a2 a3 a4 a5 a6 a7 a8 a9 a10 a11 a12 a13 a14) (hk : k < 11) (hd : d < 8) (hf : f < 8) (h9 : 9 ≤ k → x5 = 0) : ba_M (fun post => wX_emit_53 post (nI k) (nI d) (nI f) x4 x5 ct bn pd on fe fg wt gp pc fh tk a1 a2 a3 a4 a5 a6 a7 a8 a9 a10 a11 a12 a13 a14) := by
  by_cases g : 6 ≤ k
  · obtain ⟨r, u', h1, h2⟩ := ba_e68 ct bn pd on fe fg wt gp pc fh tk a1 a2 a3 a4 a5 a6 a7 a8 a9 a10 a11 a12 a13 a14 x4 x5 127 h hk hd hf h9
    exact ⟨r, u', h1, fun post hpo => pk_le 6 k (fun _ => h2 post hpo) (fun z => absurd z (by omega))⟩
  · obtain ⟨r, u', h1, h2⟩ := ba_e68 ct bn pd on fe fg wt gp pc fh tk a1 a2 a3 a4 a5 a6 a7 a8 a9 a10 a11 a12 a13 a14 x4 x5 7 h hk hd hf h9
    exact ⟨r, u', h1, fun post hpo => pk_le 6 k (fun z => absurd z (by omega)) (fun _ => h2 post hpo)⟩
theorem ba_emit (ct bn pd on fe fg wt gp pc fh tk : Int32) (a1 a2 a3 a4 a5 a6 a7 a8 a9 a10 a11 a12 a13 a14 : Nat → Int32) (p0 p1 p2 p3 : Int32) (h : ba_W ct bn pd on fe fg wt gp pc fh tk a1 a2 a3 a4 a5 a6 a7 a8 a9 a10 a11 a12 a13 a14) : ba_M (fun post => wpX_emit post (ct, bn, pd, on, fe, fg, wt, gp, pc, fh, tk, a1, a2, a3, a4, a5, a6, a7, a8, a9, a10, a11, a12, a13, a14) p0 p1 p2 p3) := by
  by_cases g0 : p0 < 0
  · exact ⟨-1, (ct, bn, pd, on, fe, fg, wt, gp, pc, fh, tk, a1, a2, a3, a4, a5, a6, a7, a8, a9, a10, a11, a12, a13, a14), h, fun post hpo => br_t g0 hpo⟩
  · by_cases g1 : p0 ≤ 10
    · by_cases g2 : p1 < 0
      · exact ⟨-2, (ct, bn, pd, on, fe, fg, wt, gp, pc, fh, tk, a1, a2, a3, a4, a5, a6, a7, a8, a9, a10, a11, a12, a13, a14), h, fun post hpo => br_f g0 (br_t g1 (br_t g2 hpo))⟩
      · by_cases g3 : 7 < p1
        · exact ⟨-2, (ct, bn, pd, on, fe, fg, wt, gp, pc, fh, tk, a1, a2, a3, a4, a5, a6, a7, a8, a9, a10, a11, a12, a13, a14), h, fun post hpo => br_f g0 (br_t g1 (br_f g2 (br_t g3 hpo)))⟩
        · by_cases g4 : p2 < 0
          · exact ⟨-2, (ct, bn, pd, on, fe, fg, wt, gp, pc, fh, tk, a1, a2, a3, a4, a5, a6, a7, a8, a9, a10, a11, a12, a13, a14), h, fun post hpo => br_f g0 (br_t g1 (br_f g2 (br_f g3 (br_t g4 hpo))))⟩
          · by_cases g5 : p2 ≤ 7
            · have g0' := g0
              have g1' := g1
              obtain ⟨k, hk, rfl⟩ := nI_of2 (M := 10) (n := 10) (by decide) g0 g1
              obtain ⟨d, hd, rfl⟩ := nI_of2 (M := 7) (n := 7) (by decide) g2 (Int32.not_lt.mp g3)
              obtain ⟨f, hf, rfl⟩ := nI_of2 (M := 7) (n := 7) (by decide) g4 g5
              by_cases g6 : k < 6
              · obtain ⟨r, u', h1, h2⟩ := ba_e53 ct bn pd on fe fg wt gp pc fh tk a1 a2 a3 a4 a5 a6 a7 a8 a9 a10 a11 a12 a13 a14 p3 0 h (show k < 11 by omega) (show d < 8 by omega) (show f < 8 by omega) (fun _ => rfl)
                exact ⟨r, u', h1, fun post hpo => br_f g0 (br_t g1 (br_f g2 (br_f g3 (br_f g4 (br_t g5 (pk_lt k 6 (fun _ => h2 post hpo) (fun z => absurd z (by omega))))))))⟩
              · by_cases g7 : 8 < k
                · obtain ⟨r, u', h1, h2⟩ := ba_e53 ct bn pd on fe fg wt gp pc fh tk a1 a2 a3 a4 a5 a6 a7 a8 a9 a10 a11 a12 a13 a14 p3 0 h (show k < 11 by omega) (show d < 8 by omega) (show f < 8 by omega) (fun _ => rfl)
                  exact ⟨r, u', h1, fun post hpo => br_f g0 (br_t g1 (br_f g2 (br_f g3 (br_f g4 (br_t g5 (pk_lt k 6 (fun z => absurd z (by omega)) (fun _ => pk_lt 8 k (fun _ => h2 post hpo) (fun z => absurd z (by omega)))))))))⟩
                · obtain ⟨r, u', h1, h2⟩ := ba_e53 ct bn pd on fe fg wt gp pc fh tk a1 a2 a3 a4 a5 a6 a7 a8 a9 a10 a11 a12 a13 a14 p3 (-128) h (show k < 11 by omega) (show d < 8 by omega) (show f < 8 by omega) (fun z => absurd z (by omega))
                  exact ⟨r, u', h1, fun post hpo => br_f g0 (br_t g1 (br_f g2 (br_f g3 (br_f g4 (br_t g5 (pk_lt k 6 (fun z => absurd z (by omega)) (fun _ => pk_lt 8 k (fun z => absurd z (by omega)) (fun _ => h2 post hpo))))))))⟩
            · exact ⟨-2, (ct, bn, pd, on, fe, fg, wt, gp, pc, fh, tk, a1, a2, a3, a4, a5, a6, a7, a8, a9, a10, a11, a12, a13, a14), h, fun post hpo => br_f g0 (br_t g1 (br_f g2 (br_f g3 (br_f g4 (br_f g5 hpo)))))⟩
    · exact ⟨-1, (ct, bn, pd, on, fe, fg, wt, gp, pc, fh, tk, a1, a2, a3, a4, a5, a6, a7, a8, a9, a10, a11, a12, a13, a14), h, fun post hpo => br_f g0 (br_f g1 hpo)⟩
theorem ba_setCell (ct bn pd on fe fg wt gp pc fh tk : Int32) (a1 a2 a3 a4 a5 a6 a7 a8 a9 a10 a11 a12 a13 a14 : Nat → Int32) (p0 p1 : Int32) (h : ba_W ct bn pd on fe fg wt gp pc fh tk a1 a2 a3 a4 a5 a6 a7 a8 a9 a10 a11 a12 a13 a14) : ba_M (fun post => wpX_setCell post (ct, bn, pd, on, fe, fg, wt, gp, pc, fh, tk, a1, a2, a3, a4, a5, a6, a7, a8, a9, a10, a11, a12, a13, a14) p0 p1) := by
  by_cases g0 : p0 < 0
  · exact ⟨-1, (ct, bn, pd, on, fe, fg, wt, gp, pc, fh, tk, a1, a2, a3, a4, a5, a6, a7, a8, a9, a10, a11, a12, a13, a14), h, fun post hpo => br_t g0 hpo⟩
  · by_cases g1 : p0 ≤ 15
    · have hin : vp_in p0 16 := by
        obtain ⟨j, hj, rfl⟩ := nI_of2 (M := 15) (n := 15) (by decide) g0 g1
        exact vp_in_nI (by omega) (by omega)
      exact ⟨0, (ct, bn, pd, on, fe, fg, wt, gp, pc, 1, tk, a1, a2, a3, a4, a5, a6, a7, a8, a9, a10, a11, upd a12 p0.toNatClampNeg p1, a13, a14), h, fun post hpo => br_f g0 (br_t g1 ⟨hin, nm_e hpo⟩)⟩
    · exact ⟨-1, (ct, bn, pd, on, fe, fg, wt, gp, pc, fh, tk, a1, a2, a3, a4, a5, a6, a7, a8, a9, a10, a11, a12, a13, a14), h, fun post hpo => br_f g0 (br_f g1 hpo)⟩
theorem ba_setReg (ct bn pd on fe fg wt gp pc fh tk : Int32) (a1 a2 a3 a4 a5 a6 a7 a8 a9 a10 a11 a12 a13 a14 : Nat → Int32) (p0 p1 : Int32) (h : ba_W ct bn pd on fe fg wt gp pc fh tk a1 a2 a3 a4 a5 a6 a7 a8 a9 a10 a11 a12 a13 a14) : ba_M (fun post => wpX_setRegister post (ct, bn, pd, on, fe, fg, wt, gp, pc, fh, tk, a1, a2, a3, a4, a5, a6, a7, a8, a9, a10, a11, a12, a13, a14) p0 p1) := by
  by_cases g0 : p0 < 0
  · exact ⟨-1, (ct, bn, pd, on, fe, fg, wt, gp, pc, fh, tk, a1, a2, a3, a4, a5, a6, a7, a8, a9, a10, a11, a12, a13, a14), h, fun post hpo => br_t g0 hpo⟩
  · by_cases g1 : p0 ≤ 7
    · have hin : vp_in p0 8 := by
        obtain ⟨j, hj, rfl⟩ := nI_of2 (M := 7) (n := 7) (by decide) g0 g1
        exact vp_in_nI (by omega) (by omega)
      exact ⟨0, (ct, bn, pd, on, fe, fg, wt, gp, pc, 1, tk, a1, a2, a3, a4, a5, a6, a7, a8, a9, a10, upd a11 p0.toNatClampNeg p1, a12, a13, a14), h, fun post hpo => br_f g0 (br_t g1 ⟨hin, nm_e hpo⟩)⟩
    · exact ⟨-1, (ct, bn, pd, on, fe, fg, wt, gp, pc, fh, tk, a1, a2, a3, a4, a5, a6, a7, a8, a9, a10, a11, a12, a13, a14), h, fun post hpo => br_f g0 (br_f g1 hpo)⟩
theorem ba_retract (ct bn pd on fe fg wt gp pc fh tk : Int32) (a1 a2 a3 a4 a5 a6 a7 a8 a9 a10 a11 a12 a13 a14 : Nat → Int32) (h : ba_W ct bn pd on fe fg wt gp pc fh tk a1 a2 a3 a4 a5 a6 a7 a8 a9 a10 a11 a12 a13 a14) : ba_M (fun post => wpX_retract post (ct, bn, pd, on, fe, fg, wt, gp, pc, fh, tk, a1, a2, a3, a4, a5, a6, a7, a8, a9, a10, a11, a12, a13, a14)) := by
  have h' := h
  obtain ⟨c, p, hc, hp, rfl, rfl, ho, hT, h7, h10, h9, hk⟩ := h
  by_cases g : c = 0
  · subst g
    exact ⟨-1, (nI 0, bn, pd, on, fe, fg, wt, gp, nI p, fh, tk, a1, a2, a3, a4, a5, a6, a7, a8, a9, a10, a11, a12, a13, a14), h', fun post hpo => br_t rfl hpo⟩
  · exact ⟨nI (c - 1), (nI (c - 1), bn, 0, on, fe, fg, wt, gp, 0, 1, 0, a1, a2, a3, a4, a5, a6, a7, a8, a9, a10, a11, a12, a13, a14), ⟨c - 1, 0, by omega, by omega, rfl, rfl, ba_opsL ho (by omega), hT, h7, h10, h9, fun z => absurd rfl z⟩, fun post hpo => pk_eq c 0 (fun z => absurd z g) (fun _ => nm_r (pk_sub (a := c) (b := 1) (by omega)) hpo)⟩
theorem ba_clear (ct bn pd on fe fg wt gp pc fh tk : Int32) (a1 a2 a3 a4 a5 a6 a7 a8 a9 a10 a11 a12 a13 a14 : Nat → Int32) (h : ba_W ct bn pd on fe fg wt gp pc fh tk a1 a2 a3 a4 a5 a6 a7 a8 a9 a10 a11 a12 a13 a14) : ba_M (fun post => wpX_clear post (ct, bn, pd, on, fe, fg, wt, gp, pc, fh, tk, a1, a2, a3, a4, a5, a6, a7, a8, a9, a10, a11, a12, a13, a14)) := by
  obtain ⟨c, p, hc, hp, rfl, rfl, ho, hT, h7, h10, h9, hk⟩ := h
  exact ⟨nI c, (0, bn, 0, on, fe, fg, wt, gp, 0, 1, 0, a1, a2, a3, a4, a5, a6, a7, a8, a9, a10, a11, a12, a13, a14), ⟨0, 0, by omega, by omega, rfl, rfl, fun j hj => absurd hj (by omega), hT, h7, h10, h9, fun z => absurd rfl z⟩, fun post hpo => hpo⟩
theorem ba_Wrest (ct bn pd on fe fg wt gp pc fh tk : Int32) (a1 a2 a3 a4 a5 a6 a7 a8 a9 a10 a11 a12 a13 a14 : Nat → Int32) (h : ba_W ct bn pd on fe fg wt gp pc fh tk a1 a2 a3 a4 a5 a6 a7 a8 a9 a10 a11 a12 a13 a14) : ba_W ct bn pd on fe fg wt gp 0 1 tk a1 a2 a3 a4 a5 a6 a7 a8 a9 a10 a11 a12 a13 a14 := by
  obtain ⟨c, p, hc, hp, rfl, rfl, ho, hT, h7, h10, h9, hk⟩ := h
  exact ⟨c, 0, hc, by omega, rfl, rfl, ho, hT, h7, h10, h9, hk⟩
theorem ba_field (k v : Int32) : ∃ r : Int32, ∀ post : Int32 → Prop, post r → wpL_field post () k v := by
  by_cases g6 : 6 ≤ k
  · by_cases g9 : 9 ≤ k
    · exact ⟨_, fun post hp => br_t g6 (br_t g9 ⟨by decide, hp⟩)⟩
    · exact ⟨_, fun post hp => br_t g6 (br_f g9 hp)⟩
  · exact ⟨_, fun post hp => br_f g6 hp⟩
/-- a method that leaves a good state -/
def ba_N (wp : (St1 → Prop) → Prop) : Prop := ∃ u' : St1, ba_WF u' ∧ ∀ post : St1 → Prop, post u' → wp post
theorem ba_t132 (ct bn pd on fe fg wt gp pc fh tk : Int32) (a1 a2 a3 a4 a5 a6 a7 a8 a9 a10 a11 a12 a13 a14 : Nat → Int32) (x2 x3 : Int32) (h : ba_W ct bn pd on fe fg wt gp pc fh tk a1 a2 a3 a4 a5 a6 a7 a8 a9 a10 a11 a12 a13 a14) : ba_N (fun post => wL_turn_132 post x2 x3 ct bn pd on fe fg wt gp pc fh tk a1 a2 a3 a4 a5 a6 a7 a8 a9 a10 a11 a12 a13 a14) := by
  by_cases g : x3 = 14
  · by_cases g2 : (x2 &&& 63) = 1
    · obtain ⟨r, u', h1, h2⟩ := ba_clear ct bn pd on fe fg wt gp pc fh tk a1 a2 a3 a4 a5 a6 a7 a8 a9 a10 a11 a12 a13 a14 h
      obtain ⟨ct_w, bn_w, pd_w, on_w, fe_w, fg_w, wt_w, gp_w, pc_w, fh_w, tk_w, a1_w, a2_w, a3_w, a4_w, a5_w, a6_w, a7_w, a8_w, a9_w, a10_w, a11_w, a12_w, a13_w, a14_w⟩ := u'
      exact ⟨_, h1, fun post hpo => br_t g (br_t g2 (h2 _ hpo))⟩
    · exact ⟨(ct, bn, pd, on, fe, fg, wt, gp, pc, fh, tk, a1, a2, a3, a4, a5, a6, a7, a8, a9, a10, a11, a12, a13, a14), h, fun post hpo => br_t g (br_f g2 hpo)⟩
  · exact ⟨(ct, bn, pd, on, fe, fg, wt, gp, pc, fh, tk, a1, a2, a3, a4, a5, a6, a7, a8, a9, a10, a11, a12, a13, a14), h, fun post hpo => br_f g hpo⟩
theorem ba_turn (ct bn pd on fe fg wt gp pc fh tk : Int32) (a1 a2 a3 a4 a5 a6 a7 a8 a9 a10 a11 a12 a13 a14 : Nat → Int32) (p1 p2 : Int32) (h : ba_W ct bn pd on fe fg wt gp pc fh tk a1 a2 a3 a4 a5 a6 a7 a8 a9 a10 a11 a12 a13 a14) : ba_N (fun post => wpL_turn post (ct, bn, pd, on, fe, fg, wt, gp, pc, fh, tk, a1, a2, a3, a4, a5, a6, a7, a8, a9, a10, a11, a12, a13, a14) p1 p2) := by
  by_cases g10 : 10 ≤ p1 &&& 15
  · by_cases g12 : 12 ≤ p1 &&& 15
    · by_cases e12 : p1 &&& 15 = 12
      · obtain ⟨r, u', h1, h2⟩ := ba_setCell ct bn pd on fe fg wt gp pc fh tk a1 a2 a3 a4 a5 a6 a7 a8 a9 a10 a11 a12 a13 a14 (p2 &&& 15) (p2 >>> ((4 : Int32) &&& 31)) h
        obtain ⟨ct_w, bn_w, pd_w, on_w, fe_w, fg_w, wt_w, gp_w, pc_w, fh_w, tk_w, a1_w, a2_w, a3_w, a4_w, a5_w, a6_w, a7_w, a8_w, a9_w, a10_w, a11_w, a12_w, a13_w, a14_w⟩ := u'
        exact ⟨_, h1, fun post hpo => nm_e (nm_e (br_t g10 (br_t g12 (br_t e12 (h2 _ hpo)))))⟩
      · by_cases e13 : p1 &&& 15 = 13
        · exact ⟨(ct, bn, pd, on, fe, fg, wt, gp, 0, 1, tk, a1, a2, a3, a4, a5, a6, a7, a8, a9, a10, a11, a12, a13, a14), ba_Wrest ct bn pd on fe fg wt gp pc fh tk a1 a2 a3 a4 a5 a6 a7 a8 a9 a10 a11 a12 a13 a14 h, fun post hpo => nm_e (nm_e (br_t g10 (br_t g12 (br_f e12 (br_t e13 hpo)))))⟩
        · obtain ⟨u', h1, h2⟩ := ba_t132 ct bn pd on fe fg wt gp pc fh tk a1 a2 a3 a4 a5 a6 a7 a8 a9 a10 a11 a12 a13 a14 p2 (p1 &&& 15) h
          by_cases e14 : p1 &&& 15 = 14
          · by_cases e3 : (p2 &&& 3) = 0
            · obtain ⟨r, u2, k1, k2⟩ := ba_retract ct bn pd on fe fg wt gp pc fh tk a1 a2 a3 a4 a5 a6 a7 a8 a9 a10 a11 a12 a13 a14 h
              obtain ⟨ct_w, bn_w, pd_w, on_w, fe_w, fg_w, wt_w, gp_w, pc_w, fh_w, tk_w, a1_w, a2_w, a3_w, a4_w, a5_w, a6_w, a7_w, a8_w, a9_w, a10_w, a11_w, a12_w, a13_w, a14_w⟩ := u2
              exact ⟨_, k1, fun post hpo => nm_e (nm_e (br_t g10 (br_t g12 (br_f e12 (br_f e13 (br_t e14 (br_t e3 (k2 _ hpo))))))))⟩
            · exact ⟨u', h1, fun post hpo => nm_e (nm_e (br_t g10 (br_t g12 (br_f e12 (br_f e13 (br_t e14 (br_f e3 (h2 post hpo))))))))⟩
          · exact ⟨u', h1, fun post hpo => nm_e (nm_e (br_t g10 (br_t g12 (br_f e12 (br_f e13 (br_f e14 (h2 post hpo)))))))⟩
    · obtain ⟨r, u', h1, h2⟩ := ba_setReg ct bn pd on fe fg wt gp pc fh tk a1 a2 a3 a4 a5 a6 a7 a8 a9 a10 a11 a12 a13 a14 (p2 &&& 7) (p2 >>> ((3 : Int32) &&& 31)) h
      obtain ⟨ct_w, bn_w, pd_w, on_w, fe_w, fg_w, wt_w, gp_w, pc_w, fh_w, tk_w, a1_w, a2_w, a3_w, a4_w, a5_w, a6_w, a7_w, a8_w, a9_w, a10_w, a11_w, a12_w, a13_w, a14_w⟩ := u'
      exact ⟨_, h1, fun post hpo => nm_e (nm_e (br_t g10 (br_f g12 (h2 _ hpo))))⟩
  · obtain ⟨rf, hf⟩ := ba_field (((p1 >>> ((4 : Int32) &&& 31)) &&& 15) - ((p1 >>> ((4 : Int32) &&& 31)) &&& 15) / 11 * 11) (p2 >>> ((6 : Int32) &&& 31))
    obtain ⟨r, u', h1, h2⟩ := ba_emit ct bn pd on fe fg wt gp pc fh tk a1 a2 a3 a4 a5 a6 a7 a8 a9 a10 a11 a12 a13 a14 (((p1 >>> ((4 : Int32) &&& 31)) &&& 15) - ((p1 >>> ((4 : Int32) &&& 31)) &&& 15) / 11 * 11) (p2 &&& 7) ((p2 >>> ((3 : Int32) &&& 31)) &&& 7) rf h
    obtain ⟨ct_w, bn_w, pd_w, on_w, fe_w, fg_w, wt_w, gp_w, pc_w, fh_w, tk_w, a1_w, a2_w, a3_w, a4_w, a5_w, a6_w, a7_w, a8_w, a9_w, a10_w, a11_w, a12_w, a13_w, a14_w⟩ := u'
    exact ⟨_, h1, fun post hpo => nm_e (nm_e (br_f g10 ⟨by decide, nm_e (hf _ (h2 _ hpo))⟩))⟩
end
section
theorem ba_lcell (L : Nat) (xs : Nat → Int32) {k : Nat} (hk : k < 1000) (hL : L ≤ 260) : ∃ r : Int32, ∀ post : Int32 → Prop, post r → wpL_cell post L xs () (nI k) := by
  by_cases h : L ≤ k
  · exact ⟨0, fun post hp => pk_le L k (fun _ => hp) (fun z => absurd z (by omega))⟩
  · exact ⟨xs (nI k).toNatClampNeg, fun post hp => pk_le L k (fun z => absurd z (by omega)) (fun _ => ⟨pk_in k L (by omega), hp⟩)⟩
theorem ba_law18 (L : Nat) (xs : Nat → Int32) (hL : L ≤ 260) (kc ks : Nat) : ∀ n k (ct bn pd on fe fg wt gp pc fh tk : Int32) (a1 a2 a3 a4 a5 a6 a7 a8 a9 a10 a11 a12 a13 a14 : Nat → Int32), k ≤ L + 1 → L + 1 - k < n → ba_W ct bn pd on fe fg wt gp pc fh tk a1 a2 a3 a4 a5 a6 a7 a8 a9 a10 a11 a12 a13 a14 → wL_law_18 (fun r => r = 1) L xs kc ks n (nI k) ct bn pd on fe fg wt gp pc fh tk a1 a2 a3 a4 a5 a6 a7 a8 a9 a10 a11 a12 a13 a14 ct bn pd on fe fg wt gp pc fh tk a1 a2 a3 a4 a5 a6 a7 a8 a9 a10 a11 a12 a13 a14 := by
  intro n
  induction n with
  | zero => intro k ct bn pd on fe fg wt gp pc fh tk a1 a2 a3 a4 a5 a6 a7 a8 a9 a10 a11 a12 a13 a14 _ h; omega
  | succ n ih =>
    intro k ct bn pd on fe fg wt gp pc fh tk a1 a2 a3 a4 a5 a6 a7 a8 a9 a10 a11 a12 a13 a14 hk hn hW
    by_cases h : L ≤ k
    · exact pk_le L k (fun _ => rfl) (fun z => absurd z (by omega))
    · obtain ⟨c, hc⟩ := ba_lcell L xs (show k < 1000 by omega) hL
      obtain ⟨d, hd⟩ := ba_lcell L xs (show k + 1 < 1000 by omega) hL
      obtain ⟨u', h1, h2⟩ := ba_turn ct bn pd on fe fg wt gp pc fh tk a1 a2 a3 a4 a5 a6 a7 a8 a9 a10 a11 a12 a13 a14 c d hW
      obtain ⟨ct_w, bn_w, pd_w, on_w, fe_w, fg_w, wt_w, gp_w, pc_w, fh_w, tk_w, a1_w, a2_w, a3_w, a4_w, a5_w, a6_w, a7_w, a8_w, a9_w, a10_w, a11_w, a12_w, a13_w, a14_w⟩ := u'
      have J76 : wL_law_76 (fun r => r = 1) L xs (wL_law_18 (fun r => r = 1) L xs kc ks n) (nI k) d kc ks ct_w bn_w pd_w on_w fe_w fg_w wt_w gp_w pc_w fh_w tk_w a1_w a2_w a3_w a4_w a5_w a6_w a7_w a8_w a9_w a10_w a11_w a12_w a13_w a14_w ct_w bn_w pd_w on_w fe_w fg_w wt_w gp_w pc_w fh_w tk_w a1_w a2_w a3_w a4_w a5_w a6_w a7_w a8_w a9_w a10_w a11_w a12_w a13_w a14_w := by
        obtain ⟨N, hN, eN⟩ := pk_andE (d >>> ((11 : Int32) &&& 31)) (m := 63) 6 (by decide)
        obtain ⟨v', hv, hp⟩ := ba_portions (ct_w, bn_w, pd_w, on_w, fe_w, fg_w, wt_w, gp_w, pc_w, fh_w, tk_w, a1_w, a2_w, a3_w, a4_w, a5_w, a6_w, a7_w, a8_w, a9_w, a10_w, a11_w, a12_w, a13_w, a14_w) h1 (show N ≤ 63 by omega)
        obtain ⟨ct_y, bn_y, pd_y, on_y, fe_y, fg_y, wt_y, gp_y, pc_y, fh_y, tk_y, a1_y, a2_y, a3_y, a4_y, a5_y, a6_y, a7_y, a8_y, a9_y, a10_y, a11_y, a12_y, a13_y, a14_y⟩ := v'
        unfold wL_law_76
        rw [eN]
        exact hp _ (br_f (by decide) (nm_r (nI_add k 2) (ih (k + 2) ct_y bn_y pd_y on_y fe_y fg_y wt_y gp_y pc_y fh_y tk_y a1_y a2_y a3_y a4_y a5_y a6_y a7_y a8_y a9_y a10_y a11_y a12_y a13_y a14_y (by omega) (by omega) hv.1)))
      refine pk_le L k (fun z => absurd z h) (fun _ => hc _ ?_)
      rw [nI_1 k]
      refine hd _ (h2 _ (h2 _ ?_))
      exact br_c (fun _ => J76) (fun _ => br_c (fun _ => J76) (fun _ => nm_r (nI_add k 2) (ih (k + 2) ct_w bn_w pd_w on_w fe_w fg_w wt_w gp_w pc_w fh_w tk_w a1_w a2_w a3_w a4_w a5_w a6_w a7_w a8_w a9_w a10_w a11_w a12_w a13_w a14_w (by omega) (by omega) h1)))
def ba_a5 : Nat → Int32 := upd (upd (upd (upd (upd (upd (fun _ => 0) 0 145) 1 137) 2 273) 3 265) 4 289) 5 292
theorem ba_TmI : ba_Tm ba_a5 := by
  intro t ht
  have e : t = 0 ∨ t = 1 ∨ t = 2 ∨ t = 3 ∨ t = 4 ∨ t = 5 := by omega
  rcases e with rfl | rfl | rfl | rfl | rfl | rfl <;> rfl
theorem ba_init {post : St1 → Prop} (hp : post (0, 0, 0, 0, 0, 0, 0, 0, 0, 0, 0, (fun _ => 0), (fun _ => 0), (fun _ => 0), (fun _ => 0), ba_a5, (fun _ => 0), (fun _ => 0), (fun _ => 0), (fun _ => 0), (fun _ => 0), (fun _ => 0), (fun _ => 0), (fun _ => 0), (fun _ => 0))) : wpX_init post 14 367 (0, 0, 0, 0, 0, 0, 0, 0, 0, 0, 0) := by
  unfold wpX_init
  dsimp only
  refine ⟨by decide, by decide, by decide, by decide, by decide, by decide, by decide, by decide, by decide, by decide, by decide, by decide, by decide, by decide, by decide, by decide, by decide, by decide, by decide, by decide, by decide, by decide, by decide, by decide, by decide, by decide, by decide, by decide, ?_⟩
  exact nm_e (nm_e (nm_e (nm_e (nm_e (nm_e hp)))))
theorem ba_W0 : ba_W 0 0 0 0 0 0 0 0 0 0 0 (fun _ => 0) (fun _ => 0) (fun _ => 0) (fun _ => 0) ba_a5 (fun _ => 0) (fun _ => 0) (fun _ => 0) (fun _ => 0) (fun _ => 0) (fun _ => 0) (fun _ => 0) (fun _ => 0) (fun _ => 0) :=
  ⟨0, 0, by omega, by omega, rfl, rfl, fun j hj => absurd hj (by omega), ba_TmI, fun j _ => ⟨0, by omega, rfl⟩, fun j _ => ⟨0, by omega, rfl⟩, fun _ => Or.inl rfl, fun z => absurd rfl z⟩
theorem i_vc (xs : Nat → Int32) (L : Nat) (hL : L ≤ 260) : wpL_law (fun r => r = 1) L xs := by
  refine ⟨14, 367, by decide, by decide, ba_init ⟨by decide, by decide, 14, 367, by decide, by decide, ba_init ⟨L + 2, ?_⟩⟩⟩
  exact ba_law18 L xs hL _ _ (L + 2) 0 _ _ _ _ _ _ _ _ _ _ _ _ _ _ _ _ _ _ _ _ _ _ _ _ _ (by omega) (by omega) ba_W0
end
