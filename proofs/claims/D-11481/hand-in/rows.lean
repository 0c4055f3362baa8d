section
/-- an array of naturals, as an array of ints -/
def wc_ar (s : Nat → Nat) : Nat → Int32 := fun i => nI (s i)
def wc_un (s : Nat → Nat) (k x : Nat) : Nat → Nat := fun j => if j = k then x else s j
theorem wc_us {s : Nat → Nat} {k x : Nat} : wc_un s k x k = x := if_pos rfl
theorem wc_uo {s : Nat → Nat} {k x j : Nat} (h : j ≠ k) : wc_un s k x j = s j := if_neg h
theorem wc_upd (s : Nat → Nat) (k x : Nat) : upd (wc_ar s) k (nI x) = wc_ar (wc_un s k x) := by
  funext j
  show (if j = k then nI x else nI (s j)) = nI (if j = k then x else s j)
  by_cases h : j = k
  · rw [if_pos h, if_pos h]
  · rw [if_neg h, if_neg h]
theorem wc_set {s : Nat → Nat} {i y : Int32} (j m : Nat) (hi : i.toNatClampNeg = j) (hy : y = nI m) : upd (wc_ar s) i.toNatClampNeg y = wc_ar (wc_un s j m) := by
  rw [hi, hy, wc_upd]
theorem wc_add {s : Nat → Nat} {i y : Int32} (j m : Nat) (hi : i.toNatClampNeg = j) (hy : y = nI m) : upd (wc_ar s) i.toNatClampNeg (wc_ar s i.toNatClampNeg + y) = wc_ar (wc_un s j (s j + m)) := by
  rw [hi, hy]
  show upd (wc_ar s) j (nI (s j) + nI m) = _
  rw [nI_add, wc_upd]
theorem wc_sub {s : Nat → Nat} {i y : Int32} (j m : Nat) (hi : i.toNatClampNeg = j) (hy : y = nI m) (hm : m ≤ s j) : upd (wc_ar s) i.toNatClampNeg (wc_ar s i.toNatClampNeg - y) = wc_ar (wc_un s j (s j - m)) := by
  rw [hi, hy]
  show upd (wc_ar s) j (nI (s j) - nI m) = _
  rw [pk_sub hm, wc_upd]
theorem wc_get {s : Nat → Nat} {i : Int32} (j : Nat) (hi : i.toNatClampNeg = j) : wc_ar s i.toNatClampNeg = nI (s j) := by
  rw [hi]
  rfl
theorem wc_nat (x : Int32) : x = nI x.toBitVec.toNat := by
  apply Int32.toBitVec_inj.mp
  apply BitVec.eq_of_toNat_eq
  rw [pk_tn x.toBitVec.isLt]
theorem wc_any (a : Nat → Int32) : a = wc_ar (fun i => (a i).toBitVec.toNat) := funext fun i => wc_nat (a i)
theorem wc_cell (u v a b : Nat) : ((((((6 : Int32) * nI u) + nI v) * 9) + (3 * nI a)) + nI b) = nI ((6 * u + v) * 9 + 3 * a + b) := by
  show ((((nI 6 * nI u) + nI v) * nI 9) + (nI 3 * nI a)) + nI b = _
  simp only [pk_mul, nI_add]
theorem wc_3 (u a : Nat) : ((3 : Int32) * nI u) + nI a = nI (3 * u + a) := by
  show (nI 3 * nI u) + nI a = _
  simp only [pk_mul, nI_add]
theorem wc_18 (u w b : Nat) : ((((18 : Int32) * nI u) + (3 * nI w)) + nI b) = nI (18 * u + 3 * w + b) := by
  show ((nI 18 * nI u) + (nI 3 * nI w)) + nI b = _
  simp only [pk_mul, nI_add]
theorem wc_36 (u w b : Nat) : (((((18 : Int32) * nI u) + 18) + (3 * nI w)) + nI b) = nI (18 * u + 18 + 3 * w + b) := by
  show (((nI 18 * nI u) + nI 18) + (nI 3 * nI w)) + nI b = _
  simp only [pk_mul, nI_add]
/-- one row of 'lower' -/
def wc_ls (s p : Nat → Nat) (k t : Nat) : Nat → Nat := wc_un s k (s k + min (p t) (p (t + 1)))
def wc_lp (p : Nat → Nat) (t : Nat) : Nat → Nat := wc_un (wc_un p t (p t - min (p t) (p (t + 1)))) (t + 1) (p (t + 1) - min (p t) (p (t + 1)))
theorem wc_lo81 {post : St2 → Prop} {J : Int32 → (Nat → Int32) → (Nat → Int32) → (Nat → Int32) → (Nat → Int32) → (Nat → Int32) → (Nat → Int32) → (Nat → Int32) → (Nat → Int32) → (Nat → Int32) → (Nat → Int32) → Prop} {x1 x2 x3 x4 x5 : Int32} {s p : Nat → Nat} {fl ct ab cn cg ylo yhi ylv yhv : Int32} {a1 a2 a3 a4 a7 a8 a9 a10 : Nat → Int32} (k t m : Nat) (hk : k < 18) (ht : t + 2 ≤ 324) (e1 : (3 * x1) + x3 = nI k) (e4 : x4 = nI t) (e5 : x5 = nI m) (h0 : m ≤ p t) (h1 : m ≤ p (t + 1))
    (H : J (x3 + 1) a1 a2 a3 a4 (wc_ar (wc_un s k (s k + m))) (wc_ar (wc_un (wc_un p t (p t - m)) (t + 1) (p (t + 1) - m))) a7 a8 a9 a10) :
    ∃ n, wX_lower_81 post J x1 x2 x3 x4 x5 3 2 fl ct ab cn cg ylo yhi ylv yhv n 0 a1 a2 a3 a4 (wc_ar s) (wc_ar p) a7 a8 a9 a10 := by
  subst e4 e5
  have i0 : nI t + 0 = nI t := nI_add t 0
  have i1 : nI t + nI 1 = nI (t + 1) := nI_add t 1
  have h1' : m ≤ wc_un p t (p t - m) (t + 1) := by rw [wc_uo (by omega)]; exact h1
  refine ⟨3, br_f (by decide) ⟨pk_in t 324 (by omega) i0, pk_in t 324 (by omega) i0, nm_r (wc_sub t m (pk_cl t i0) rfl h0) (nm_r (nI_1 0) ?_)⟩⟩
  refine br_f (by decide) ⟨pk_in (t + 1) 324 (by omega) i1, pk_in (t + 1) 324 (by omega) i1, nm_r ((wc_sub (t + 1) m (pk_cl (t + 1) i1) rfl h1').trans (by rw [wc_uo (show t + 1 ≠ t by omega)])) (nm_r (nI_1 1) ?_)⟩
  exact br_t (by decide) ⟨pk_in k 18 hk e1, pk_in k 18 hk e1, nm_r (wc_add k m (pk_cl k e1) rfl) (nm_e H)⟩
theorem wc_lo31 {post : St2 → Prop} {J : Int32 → (Nat → Int32) → (Nat → Int32) → (Nat → Int32) → (Nat → Int32) → (Nat → Int32) → (Nat → Int32) → (Nat → Int32) → (Nat → Int32) → (Nat → Int32) → (Nat → Int32) → Prop} {x1 x2 x3 x4 x5 : Int32} {s p : Nat → Nat} {fl ct ab cn cg ylo yhi ylv yhv : Int32} {a1 a2 a3 a4 a7 a8 a9 a10 : Nat → Int32} (k t : Nat) (hk : k < 18) (ht : t + 2 ≤ 324) (e1 : (3 * x1) + x3 = nI k) (e4 : x4 = nI t) (e5 : x5 = nI (p t)) (h0 : p t < 2 ^ 31) (h1 : p (t + 1) < 2 ^ 31)
    (H : J (x3 + 1) a1 a2 a3 a4 (wc_ar (wc_ls s p k t)) (wc_ar (wc_lp p t)) a7 a8 a9 a10) :
    ∃ n, wX_lower_31 post J x1 x2 x3 x4 3 2 fl ct ab cn cg ylo yhi ylv yhv a1 a2 a3 a4 (wc_ar s) (wc_ar p) a7 a8 a9 a10 n x5 1 := by
  have i1 : x4 + 1 = nI (t + 1) := by rw [e4]; exact nI_1 t
  unfold wc_ls wc_lp at H
  refine ⟨2, br_f (by decide) ⟨pk_in (t + 1) 324 (by omega) i1, pk_le (p t) (p (t + 1)) (fun h => nm_r (nI_1 1) ?_) (fun h => ⟨pk_in (t + 1) 324 (by omega) i1, nm_r (wc_get (t + 1) (pk_cl (t + 1) i1)) (nm_r (nI_1 1) ?_)⟩) e5 (wc_get (t + 1) (pk_cl (t + 1) i1)) h0 h1⟩⟩
  · rw [Nat.min_eq_left h] at H
    exact br_t (by decide) (wc_lo81 k t (p t) hk ht e1 e4 e5 (Nat.le_refl _) h H)
  · rw [Nat.min_eq_right (Nat.le_of_lt h)] at H
    exact br_t (by decide) (wc_lo81 k t (p (t + 1)) hk ht e1 e4 rfl (Nat.le_of_lt h) (Nat.le_refl _) H)
theorem wc_lower {post : St2 → Prop} {s p : Nat → Nat} {fl ct ab cn cg ylo yhi ylv yhv : Int32} {a1 a2 a3 a4 a7 a8 a9 a10 : Nat → Int32} (u v : Nat) (huv : u < v) (hv : v < 3) (hb : ∀ x y, x < 2 → y < 2 → p ((6 * u + v) * 9 + 3 * x + y) < 2 ^ 31)
    (H : post (3, 2, fl, ct, ab, cn, cg, ylo, yhi, ylv, yhv, a1, a2, a3, a4, (wc_ar (wc_ls (wc_ls s p (3 * u) ((6 * u + v) * 9)) (wc_lp p ((6 * u + v) * 9)) (3 * u + 1) ((6 * u + v) * 9 + 3))), (wc_ar (wc_lp (wc_lp p ((6 * u + v) * 9)) ((6 * u + v) * 9 + 3))), a7, a8, a9, a10)) :
    wpX_lower post (3, 2, fl, ct, ab, cn, cg, ylo, yhi, ylv, yhv, a1, a2, a3, a4, (wc_ar s), (wc_ar p), a7, a8, a9, a10) (nI u) (nI v) := by
  have c0 : ((((((6 : Int32) * nI u) + nI v) * 9) + (3 * nI 0)) + nI 0) = nI ((6 * u + v) * 9) := wc_cell u v 0 0
  have c1 : ((((((6 : Int32) * nI u) + nI v) * 9) + (3 * nI 1)) + nI 0) = nI ((6 * u + v) * 9 + 3) := wc_cell u v 1 0
  have r0 : ((3 : Int32) * nI u) + nI 0 = nI (3 * u) := wc_3 u 0
  have r1 : ((3 : Int32) * nI u) + nI 1 = nI (3 * u + 1) := wc_3 u 1
  have b0 : p ((6 * u + v) * 9) < 2 ^ 31 := hb 0 0 (by omega) (by omega)
  have b1 : p ((6 * u + v) * 9 + 1) < 2 ^ 31 := hb 0 1 (by omega) (by omega)
  have b2 : wc_lp p ((6 * u + v) * 9) ((6 * u + v) * 9 + 3) < 2 ^ 31 := by
    unfold wc_lp
    rw [wc_uo (by omega), wc_uo (by omega)]
    exact hb 1 0 (by omega) (by omega)
  have b3 : wc_lp p ((6 * u + v) * 9) ((6 * u + v) * 9 + 3 + 1) < 2 ^ 31 := by
    unfold wc_lp
    rw [wc_uo (by omega), wc_uo (by omega)]
    exact hb 1 1 (by omega) (by omega)
  refine ⟨3, br_f (by decide) (And.intro (pk_in _ 324 (by omega) c0) (nm_r (wc_get _ (pk_cl _ c0)) (wc_lo31 (3 * u) ((6 * u + v) * 9) (by omega) (by omega) r0 c0 rfl b0 b1 ?_)))⟩
  refine br_f (by decide) (And.intro (pk_in _ 324 (by omega) c1) (nm_r (wc_get _ (pk_cl _ c1)) (wc_lo31 (3 * u + 1) ((6 * u + v) * 9 + 3) (by omega) (by omega) r1 c1 rfl b2 b3 ?_)))
  exact br_t (by decide) H
/-- one row of 'raise' -/
def wc_rp (p : Nat → Nat) (t m : Nat) : Nat → Nat := wc_un (wc_un p t (p t + m)) (t + 3) (p (t + 3) + m)
theorem wc_ra25 {post : St2 → Prop} {J : Int32 → (Nat → Int32) → (Nat → Int32) → (Nat → Int32) → (Nat → Int32) → (Nat → Int32) → (Nat → Int32) → (Nat → Int32) → (Nat → Int32) → (Nat → Int32) → (Nat → Int32) → Prop} {x4 : Int32} {s p : Nat → Nat} {fl ct ab cn cg ylo yhi ylv yhv : Int32} {a1 a2 a3 a4 a7 a8 a9 a10 : Nat → Int32} (u v b m : Nat) (huv : u < v) (hv : v < 3) (hb : b < 2) (e4 : x4 = nI m)
    (H : J (nI b + 1) a1 a2 a3 a4 (wc_ar (wc_un s (3 * v + b) 0)) (wc_ar (wc_rp p ((6 * u + v) * 9 + b) m)) a7 a8 a9 a10) :
    ∃ n, wX_raise_25 post J (nI u) (nI v) (nI b) x4 3 2 fl ct ab cn cg ylo yhi ylv yhv n 0 a1 a2 a3 a4 (wc_ar s) (wc_ar p) a7 a8 a9 a10 := by
  subst e4
  have c0 : ((((((6 : Int32) * nI u) + nI v) * 9) + (3 * nI 0)) + nI b) = nI ((6 * u + v) * 9 + b) := wc_cell u v 0 b
  have c1 : ((((((6 : Int32) * nI u) + nI v) * 9) + (3 * nI 1)) + nI b) = nI ((6 * u + v) * 9 + b + 3) := (wc_cell u v 1 b).trans (congrArg nI (by omega))
  have r0 : ((3 : Int32) * nI v) + nI b = nI (3 * v + b) := wc_3 v b
  refine ⟨3, br_f (by decide) ⟨pk_in _ 324 (by omega) c0, pk_in _ 324 (by omega) c0, nm_r (wc_add _ m (pk_cl _ c0) rfl) (nm_r (nI_1 0) ?_)⟩⟩
  refine br_f (by decide) ⟨pk_in _ 324 (by omega) c1, pk_in _ 324 (by omega) c1, nm_r ((wc_add _ m (pk_cl _ c1) rfl).trans (by rw [wc_uo (show (6 * u + v) * 9 + b + 3 ≠ (6 * u + v) * 9 + b by omega)])) (nm_r (nI_1 1) ?_)⟩
  exact br_t (by decide) ⟨pk_in _ 18 (by omega) r0, nm_r (wc_set _ 0 (pk_cl _ r0) rfl) (nm_e H)⟩
theorem wc_raise {post : St2 → Prop} {s p : Nat → Nat} {fl ct ab cn cg ylo yhi ylv yhv : Int32} {a1 a2 a3 a4 a7 a8 a9 a10 : Nat → Int32} (u v : Nat) (huv : u < v) (hv : v < 3)
    (H : post (3, 2, fl, ct, ab, cn, cg, ylo, yhi, ylv, yhv, a1, a2, a3, a4, (wc_ar (wc_un (wc_un s (3 * v) 0) (3 * v + 1) 0)), (wc_ar (wc_rp (wc_rp p ((6 * u + v) * 9) (s (3 * v))) ((6 * u + v) * 9 + 1) (s (3 * v + 1)))), a7, a8, a9, a10)) :
    wpX_raise post (3, 2, fl, ct, ab, cn, cg, ylo, yhi, ylv, yhv, a1, a2, a3, a4, (wc_ar s), (wc_ar p), a7, a8, a9, a10) (nI u) (nI v) := by
  have r0 : ((3 : Int32) * nI v) + nI 0 = nI (3 * v) := wc_3 v 0
  have r1 : ((3 : Int32) * nI v) + nI 1 = nI (3 * v + 1) := wc_3 v 1
  refine ⟨3, br_f (by decide) (And.intro (pk_in _ 18 (by omega) r0) (nm_r (wc_get _ (pk_cl _ r0)) (wc_ra25 u v 0 (s (3 * v)) huv hv (by omega) rfl ?_)))⟩
  refine br_f (by decide) (And.intro (pk_in _ 18 (by omega) r1) (nm_r ((wc_get _ (pk_cl _ r1)).trans (by rw [wc_uo (show 3 * v + 1 ≠ 3 * v + 0 by omega)])) (wc_ra25 u v 1 (s (3 * v + 1)) huv hv (by omega) rfl ?_)))
  exact br_t (by decide) H
/-- 'sink' -/
def wc_ss (s : Nat → Nat) (k : Nat) : Nat → Nat := wc_un (wc_un s k (s k - min (s k) (s (k + 1)))) (k + 1) (s (k + 1) - min (s k) (s (k + 1)))
theorem wc_si56 {post : St2 → Prop} {x2 : Int32} {s : Nat → Nat} {ct ab cn cg ylo yhi ylv yhv : Int32} {a1 a2 a3 a4 a6 a7 a8 a9 a10 : Nat → Int32} (f v m : Nat) (hv : v < 3) (e2 : x2 = nI m) (h0 : m ≤ s (3 * v)) (h1 : m ≤ s (3 * v + 1))
    (H : post (3, 2, (nI (f + m)), ct, ab, cn, cg, ylo, yhi, ylv, yhv, a1, a2, a3, a4, (wc_ar (wc_un (wc_un s (3 * v) (s (3 * v) - m)) (3 * v + 1) (s (3 * v + 1) - m))), a6, a7, a8, a9, a10)) :
    ∃ n, wX_sink_56 post (nI v) x2 3 2 (nI f) ct ab cn cg ylo yhi ylv yhv n 0 a1 a2 a3 a4 (wc_ar s) a6 a7 a8 a9 a10 := by
  subst e2
  have r0 : ((3 : Int32) * nI v) + nI 0 = nI (3 * v) := wc_3 v 0
  have r1 : ((3 : Int32) * nI v) + nI 1 = nI (3 * v + 1) := wc_3 v 1
  have h1' : m ≤ wc_un s (3 * v) (s (3 * v) - m) (3 * v + 1) := by rw [wc_uo (by omega)]; exact h1
  refine ⟨3, br_f (by decide) ⟨pk_in _ 18 (by omega) r0, pk_in _ 18 (by omega) r0, nm_r (wc_sub _ m (pk_cl _ r0) rfl h0) (nm_r (nI_1 0) ?_)⟩⟩
  refine br_f (by decide) ⟨pk_in _ 18 (by omega) r1, pk_in _ 18 (by omega) r1, nm_r ((wc_sub _ m (pk_cl _ r1) rfl h1').trans (by rw [wc_uo (show 3 * v + 1 ≠ 3 * v by omega)])) (nm_r (nI_1 1) ?_)⟩
  exact br_t (by decide) (nm_r (nI_add f m) H)
theorem wc_sink {post : St2 → Prop} {s : Nat → Nat} {ct ab cn cg ylo yhi ylv yhv : Int32} {a1 a2 a3 a4 a6 a7 a8 a9 a10 : Nat → Int32} (f v : Nat) (hv : v < 3) (h0 : s (3 * v) < 2 ^ 31) (h1 : s (3 * v + 1) < 2 ^ 31)
    (H : post (3, 2, (nI (f + min (s (3 * v)) (s (3 * v + 1)))), ct, ab, cn, cg, ylo, yhi, ylv, yhv, a1, a2, a3, a4, (wc_ar (wc_ss s (3 * v))), a6, a7, a8, a9, a10)) :
    wpX_sink post (3, 2, (nI f), ct, ab, cn, cg, ylo, yhi, ylv, yhv, a1, a2, a3, a4, (wc_ar s), a6, a7, a8, a9, a10) (nI v) := by
  have q0 : ((3 : Int32) * nI v) = nI (3 * v) := by
    show nI 3 * nI v = _
    rw [pk_mul]
  have r1 : ((3 : Int32) * nI v) + nI 1 = nI (3 * v + 1) := wc_3 v 1
  unfold wc_ss at H
  refine And.intro (pk_in _ 18 (by omega) q0) (nm_r (wc_get _ (pk_cl _ q0)) ⟨2, br_f (by decide) ⟨pk_in _ 18 (by omega) r1, pk_le (s (3 * v)) (s (3 * v + 1)) (fun h => nm_r (nI_1 1) ?_) (fun h => ⟨pk_in _ 18 (by omega) r1, nm_r (wc_get _ (pk_cl _ r1)) (nm_r (nI_1 1) ?_)⟩) rfl (wc_get _ (pk_cl _ r1)) h0 h1⟩⟩)
  · rw [Nat.min_eq_left h] at H
    exact br_t (by decide) (wc_si56 f v _ hv rfl (Nat.le_refl _) h H)
  · rw [Nat.min_eq_right (Nat.le_of_lt h)] at H
    exact br_t (by decide) (wc_si56 f v _ hv rfl (Nat.le_of_lt h) (Nat.le_refl _) H)
end
section
/-- the picture of the moved costs: what an assignment costs in all -/
def wc_E (f : Nat) (s p : Nat → Nat) (a b c : Nat) : Nat := f + s a + s (3 + b) + s (6 + c) + p (9 + 3 * a + b) + p (18 + 3 * a + c) + p (72 + 3 * b + c)
def wc_G (T : Nat → Nat → Nat → Nat) (f : Nat) (s p : Nat → Nat) : Prop := ∀ a b c, a < 2 → b < 2 → c < 2 → wc_E f s p a b c = T a b c
def wc_B (T : Nat → Nat → Nat → Nat) : Prop := ∀ a b c, a < 2 → b < 2 → c < 2 → T a b c ≤ 10000000
theorem wc_01 {a : Nat} (h : a < 2) : a = 0 ∨ a = 1 := by omega
theorem wc_uv {u v : Nat} (h : u < v) (hv : v < 3) : (u = 0 ∧ v = 1) ∨ (u = 0 ∧ v = 2) ∨ (u = 1 ∧ v = 2) := by omega
theorem wc_E_lo (f : Nat) (s p : Nat → Nat) {u v x a b c : Nat} (huv : u < v) (hv : v < 3) (hx : x < 2) (ha : a < 2) (hb : b < 2) (hc : c < 2) :
    wc_E f (wc_ls s p (3 * u + x) ((6 * u + v) * 9 + 3 * x)) (wc_lp p ((6 * u + v) * 9 + 3 * x)) a b c = wc_E f s p a b c := by
  rcases wc_uv huv hv with ⟨rfl, rfl⟩ | ⟨rfl, rfl⟩ | ⟨rfl, rfl⟩ <;> rcases wc_01 hx with rfl | rfl <;> rcases wc_01 ha with rfl | rfl <;> rcases wc_01 hb with rfl | rfl <;> rcases wc_01 hc with rfl | rfl <;> simp [wc_E, wc_ls, wc_lp, wc_un] <;> omega
theorem wc_E_ra (f : Nat) (s p : Nat → Nat) {u v y a b c : Nat} (huv : u < v) (hv : v < 3) (hy : y < 2) (ha : a < 2) (hb : b < 2) (hc : c < 2) :
    wc_E f (wc_un s (3 * v + y) 0) (wc_rp p ((6 * u + v) * 9 + y) (s (3 * v + y))) a b c = wc_E f s p a b c := by
  rcases wc_uv huv hv with ⟨rfl, rfl⟩ | ⟨rfl, rfl⟩ | ⟨rfl, rfl⟩ <;> rcases wc_01 hy with rfl | rfl <;> rcases wc_01 ha with rfl | rfl <;> rcases wc_01 hb with rfl | rfl <;> rcases wc_01 hc with rfl | rfl <;> simp [wc_E, wc_rp, wc_un] <;> omega
theorem wc_E_si (f : Nat) (s p : Nat → Nat) {v a b c : Nat} (hv : v < 3) (ha : a < 2) (hb : b < 2) (hc : c < 2) :
    wc_E (f + min (s (3 * v)) (s (3 * v + 1))) (wc_ss s (3 * v)) p a b c = wc_E f s p a b c := by
  have h3 : v = 0 ∨ v = 1 ∨ v = 2 := by omega
  rcases h3 with rfl | rfl | rfl <;> rcases wc_01 ha with rfl | rfl <;> rcases wc_01 hb with rfl | rfl <;> rcases wc_01 hc with rfl | rfl <;> simp [wc_E, wc_ss, wc_un] <;> omega
theorem wc_G_p {T : Nat → Nat → Nat → Nat} {f : Nat} {s p : Nat → Nat} (hT : wc_B T) (g : wc_G T f s p) {u v x y : Nat} (huv : u < v) (hv : v < 3) (hx : x < 2) (hy : y < 2) : p ((6 * u + v) * 9 + 3 * x + y) ≤ 10000000 := by
  rcases wc_uv huv hv with ⟨rfl, rfl⟩ | ⟨rfl, rfl⟩ | ⟨rfl, rfl⟩
  · have h := g x y 0 hx hy (by omega)
    have h2 := hT x y 0 hx hy (by omega)
    unfold wc_E at h
    show p (9 + 3 * x + y) ≤ _
    omega
  · have h := g x 0 y hx (by omega) hy
    have h2 := hT x 0 y hx (by omega) hy
    unfold wc_E at h
    show p (18 + 3 * x + y) ≤ _
    omega
  · have h := g 0 x y (by omega) hx hy
    have h2 := hT 0 x y (by omega) hx hy
    unfold wc_E at h
    show p (72 + 3 * x + y) ≤ _
    omega
theorem wc_G_s {T : Nat → Nat → Nat → Nat} {f : Nat} {s p : Nat → Nat} (hT : wc_B T) (g : wc_G T f s p) {v x : Nat} (hv : v < 3) (hx : x < 2) : s (3 * v + x) ≤ 10000000 := by
  have h3 : v = 0 ∨ v = 1 ∨ v = 2 := by omega
  rcases h3 with rfl | rfl | rfl
  · have h := g x 0 0 hx (by omega) (by omega)
    have h2 := hT x 0 0 hx (by omega) (by omega)
    unfold wc_E at h
    rw [show 3 * 0 + x = x by omega]
    omega
  · have h := g 0 x 0 (by omega) hx (by omega)
    have h2 := hT 0 x 0 (by omega) hx (by omega)
    unfold wc_E at h
    show s (3 + x) ≤ _
    omega
  · have h := g 0 0 x (by omega) (by omega) hx
    have h2 := hT 0 0 x (by omega) (by omega) hx
    unfold wc_E at h
    show s (6 + x) ≤ _
    omega
theorem wc_G_lo {T : Nat → Nat → Nat → Nat} {f : Nat} {s p : Nat → Nat} (g : wc_G T f s p) {u v : Nat} (x : Nat) (huv : u < v) (hv : v < 3) (hx : x < 2) :
    wc_G T f (wc_ls s p (3 * u + x) ((6 * u + v) * 9 + 3 * x)) (wc_lp p ((6 * u + v) * 9 + 3 * x)) := fun a b c ha hb hc => (wc_E_lo f s p huv hv hx ha hb hc).trans (g a b c ha hb hc)
theorem wc_G_ra {T : Nat → Nat → Nat → Nat} {f : Nat} {s p : Nat → Nat} (g : wc_G T f s p) {u v : Nat} (y : Nat) (huv : u < v) (hv : v < 3) (hy : y < 2) :
    wc_G T f (wc_un s (3 * v + y) 0) (wc_rp p ((6 * u + v) * 9 + y) (s (3 * v + y))) := fun a b c ha hb hc => (wc_E_ra f s p huv hv hy ha hb hc).trans (g a b c ha hb hc)
theorem wc_loG {post : St2 → Prop} {T : Nat → Nat → Nat → Nat} {f : Nat} {s p : Nat → Nat} {fl ct ab cn cg ylo yhi ylv yhv : Int32} {a1 a2 a3 a4 a7 a8 a9 a10 : Nat → Int32} (u v : Nat) (huv : u < v) (hv : v < 3) (hT : wc_B T) (g : wc_G T f s p)
    (H : ∀ s' p', wc_G T f s' p' → post (3, 2, fl, ct, ab, cn, cg, ylo, yhi, ylv, yhv, a1, a2, a3, a4, (wc_ar s'), (wc_ar p'), a7, a8, a9, a10)) : wpX_lower post (3, 2, fl, ct, ab, cn, cg, ylo, yhi, ylv, yhv, a1, a2, a3, a4, (wc_ar s), (wc_ar p), a7, a8, a9, a10) (nI u) (nI v) :=
  wc_lower u v huv hv (fun x y hx hy => Nat.lt_of_le_of_lt (wc_G_p hT g huv hv hx hy) (by decide)) (H _ _ (wc_G_lo (wc_G_lo g 0 huv hv (by omega)) 1 huv hv (by omega)))
theorem wc_raG {post : St2 → Prop} {T : Nat → Nat → Nat → Nat} {f : Nat} {s p : Nat → Nat} {fl ct ab cn cg ylo yhi ylv yhv : Int32} {a1 a2 a3 a4 a7 a8 a9 a10 : Nat → Int32} (u v : Nat) (huv : u < v) (hv : v < 3) (g : wc_G T f s p)
    (H : ∀ s' p', wc_G T f s' p' → post (3, 2, fl, ct, ab, cn, cg, ylo, yhi, ylv, yhv, a1, a2, a3, a4, (wc_ar s'), (wc_ar p'), a7, a8, a9, a10)) : wpX_raise post (3, 2, fl, ct, ab, cn, cg, ylo, yhi, ylv, yhv, a1, a2, a3, a4, (wc_ar s), (wc_ar p), a7, a8, a9, a10) (nI u) (nI v) := by
  have g2 := wc_G_ra (wc_G_ra g 0 huv hv (by omega)) 1 huv hv (by omega)
  rw [wc_uo (show 3 * v + 1 ≠ 3 * v + 0 by omega)] at g2
  exact wc_raise u v huv hv (H _ _ g2)
theorem wc_siG {post : St2 → Prop} {T : Nat → Nat → Nat → Nat} {f : Nat} {s p : Nat → Nat} {ct ab cn cg ylo yhi ylv yhv : Int32} {a1 a2 a3 a4 a7 a8 a9 a10 : Nat → Int32} (v : Nat) (hv : v < 3) (hT : wc_B T) (g : wc_G T f s p)
    (H : ∀ f' s', wc_G T f' s' p → post (3, 2, (nI f'), ct, ab, cn, cg, ylo, yhi, ylv, yhv, a1, a2, a3, a4, (wc_ar s'), (wc_ar p), a7, a8, a9, a10)) : wpX_sink post (3, 2, (nI f), ct, ab, cn, cg, ylo, yhi, ylv, yhv, a1, a2, a3, a4, (wc_ar s), (wc_ar p), a7, a8, a9, a10) (nI v) :=
  wc_sink f v hv (Nat.lt_of_le_of_lt (wc_G_s (x := 0) hT g hv (by omega)) (by decide)) (Nat.lt_of_le_of_lt (wc_G_s (x := 1) hT g hv (by omega)) (by decide)) (H _ _ (fun a b c ha hb hc => (wc_E_si f s p hv ha hb hc).trans (g a b c ha hb hc)))
theorem wc_pr133 {post : St2 → Prop} {J : Int32 → Int32 → Int32 → Int32 → Int32 → Int32 → Int32 → Int32 → Int32 → Int32 → Int32 → Int32 → (Nat → Int32) → (Nat → Int32) → (Nat → Int32) → (Nat → Int32) → (Nat → Int32) → (Nat → Int32) → (Nat → Int32) → (Nat → Int32) → (Nat → Int32) → (Nat → Int32) → Prop} {T : Nat → Nat → Nat → Nat} {f : Nat} {s p : Nat → Nat} {fl ct ab cn cg ylo yhi ylv yhv : Int32} {a1 a2 a3 a4 a7 a8 a9 a10 : Nat → Int32} {y : Int32} (n u v : Nat) (huv : u < v) (hv : v < 3) (hT : wc_B T) (g : wc_G T f s p) (hy : nI u + (-1) = y)
    (H : ∀ s' p', wc_G T f s' p' → wX_prepare_133 post J (nI v) n y 3 2 fl ct ab cn cg ylo yhi ylv yhv a1 a2 a3 a4 (wc_ar s') (wc_ar p') a7 a8 a9 a10) : wX_prepare_133 post J (nI v) (n + 1) (nI u) 3 2 fl ct ab cn cg ylo yhi ylv yhv a1 a2 a3 a4 (wc_ar s) (wc_ar p) a7 a8 a9 a10 :=
  br_f (nI_pos (by omega)) (wc_loG u v huv hv hT g (fun s1 p1 g1 => wc_raG u v huv hv g1 (fun s2 p2 g2 => wc_loG u v huv hv hT g2 (fun s3 p3 g3 => nm_r hy (H s3 p3 g3)))))
theorem wc_pr125 {post : St2 → Prop} {T : Nat → Nat → Nat → Nat} {f : Nat} {s p : Nat → Nat} {ct ab cn cg ylo yhi ylv yhv : Int32} {a1 a2 a3 a4 a7 a8 a9 a10 : Nat → Int32} (hT : wc_B T) (g : wc_G T f s p)
    (H : ∀ f' s' p', wc_G T f' s' p' → post (3, 2, (nI f'), ct, ab, cn, cg, ylo, yhi, ylv, yhv, a1, a2, a3, a4, (wc_ar s'), (wc_ar p'), a7, a8, a9, a10)) : ∃ n, wX_prepare_125 post n (nI 2) 3 2 (nI f) ct ab cn cg ylo yhi ylv yhv a1 a2 a3 a4 (wc_ar s) (wc_ar p) a7 a8 a9 a10 := by
  have d1 : nI 2 - 1 = nI 1 := by decide
  have d2 : nI 1 - 1 = nI 0 := by decide
  have d3 : nI 1 + (-1) = nI 0 := by decide
  have d4 : nI 0 + (-1) = -1 := by decide
  have d5 : nI 2 + (-1) = nI 1 := by decide
  refine ⟨3, br_f (by decide) (nm_r d1 ⟨3, wc_pr133 2 1 2 (by omega) (by omega) hT g d3 (fun s1 p1 g1 => wc_pr133 1 0 2 (by omega) (by omega) hT g1 d4 (fun s2 p2 g2 => br_t (by decide) (wc_siG 2 (by omega) hT g2 (fun f3 s3 g3 => nm_r d5 ?_))))⟩)⟩
  refine br_f (by decide) (nm_r d2 ⟨2, wc_pr133 1 0 1 (by omega) (by omega) hT g3 d4 (fun s4 p4 g4 => br_t (by decide) (wc_siG 1 (by omega) hT g4 (fun f5 s5 g5 => nm_r d3 ?_)))⟩)
  exact br_t (by decide) (wc_siG 0 (by omega) hT g5 (fun f6 s6 g6 => H f6 s6 _ g6))
/-- which values a mask allows; the table's costs -/
def wc_al (a4 : Nat → Int32) (v b : Nat) : Bool := decide ((((a4 v) >>> (nI b &&& 31)) &&& 1) = 1)
def wc_w (a4 : Nat → Int32) (v b : Nat) : Nat := if wc_al a4 v b = true then 0 else 1000000
def wc_q (x : Nat) : Nat := if x = 99 then 1000000 else x
def wc_T (a4 : Nat → Int32) (B : Nat → Nat) (a b c : Nat) : Nat := wc_w a4 0 a + wc_w a4 1 b + wc_w a4 2 c + wc_q (B (9 + 3 * a + b)) + wc_q (B (18 + 3 * a + c)) + wc_q (B (72 + 3 * b + c))
theorem wc_w_le (a4 : Nat → Int32) (v b : Nat) : wc_w a4 v b ≤ 1000000 := by
  unfold wc_w
  split <;> omega
theorem wc_q_le {x : Nat} (h : x ≤ 99) : wc_q x ≤ 1000000 := by
  unfold wc_q
  split <;> omega
theorem wc_T_le (a4 : Nat → Int32) (B : Nat → Nat) (hB : ∀ j, B j ≤ 99) : wc_B (wc_T a4 B) := by
  intro a b c _ _ _
  unfold wc_T
  have h1 := wc_w_le a4 0 a
  have h2 := wc_w_le a4 1 b
  have h3 := wc_w_le a4 2 c
  have h4 := wc_q_le (hB (9 + 3 * a + b))
  have h5 := wc_q_le (hB (18 + 3 * a + c))
  have h6 := wc_q_le (hB (72 + 3 * b + c))
  omega
theorem wc_fill {f s : Nat → Int32} {i k : Nat} {x : Int32} (hk : k = i) (h : ∀ j, j < i → s j = f j) (hx : x = f i) : ∀ j, j < i + 1 → upd s k x j = f j := by
  intro j hj
  rw [hk]
  by_cases e : j = i
  · rw [e, pk_us, hx]
  · rw [pk_un e]
    exact h j (by omega)
theorem wc_pr77 {post : St2 → Prop} {fl ct ab cn cg ylo yhi ylv yhv : Int32} {a1 a2 a3 a4 a5 a6 a7 a8 a9 a10 : Nat → Int32} (H : ∀ a6' : Nat → Int32, (∀ j, j < 324 → a6' j = if a2 j = 99 then nI 1000000 else a2 j) → ∃ n, wX_prepare_125 post n (nI 2) 3 2 fl ct ab cn cg ylo yhi ylv yhv a1 a2 a3 a4 a5 a6' a7 a8 a9 a10) : ∃ n, wX_prepare_77 post 3 2 fl ct ab cn cg ylo yhi ylv yhv n 0 a1 a2 a3 a4 a5 a6 a7 a8 a9 a10 :=
  pk_loop (fun n i s => wX_prepare_77 post 3 2 fl ct ab cn cg ylo yhi ylv yhv n (nI i) a1 a2 a3 a4 a5 s a7 a8 a9 a10) (fun i s => ∀ j, j < i → s j = if a2 j = 99 then nI 1000000 else a2 j) 324 0 a6 (by omega) (fun j hj => absurd hj (by omega))
    (fun n s h => pk_le 324 324 (fun _ => nm_r (show (3 : Int32) - 1 = nI 2 by decide) (H s h)) (fun z => absurd z (by omega)))
    (fun n i s hi h hw => pk_le 324 i (fun z => absurd z (by omega)) (fun _ => ⟨pk_in i 324 hi, br_c
      (fun g => ⟨pk_in i 324 hi, nm_e (nm_r (nI_1 i) (hw _ (wc_fill (f := fun j => if a2 j = 99 then nI 1000000 else a2 j) (nI_clamp (by omega)) h (by rw [nI_clamp (by omega)] at g; show _ = if a2 i = 99 then nI 1000000 else a2 i; rw [if_pos g]; rfl))))⟩)
      (fun g => ⟨pk_in i 324 hi, pk_in i 324 hi, nm_e (nm_r (nI_1 i) (hw _ (wc_fill (f := fun j => if a2 j = 99 then nI 1000000 else a2 j) (nI_clamp (by omega)) h (by rw [nI_clamp (by omega)] at g ⊢; show _ = if a2 i = 99 then nI 1000000 else a2 i; rw [if_neg g]))))⟩)⟩))
theorem wc_pr7 {post : St2 → Prop} {fl ct ab cn cg ylo yhi ylv yhv : Int32} {a2 a3 a4 a5 a6 a7 a8 a9 a10 : Nat → Int32} (H : ∀ a5' : Nat → Int32, (∀ j, j < 18 → a5' j = nI (wc_w a4 (j / 3) (j % 3))) → ∃ n, wX_prepare_77 post 3 2 fl ct ab cn cg ylo yhi ylv yhv n 0 (fun _ => 0) a2 a3 a4 a5' a6 a7 a8 a9 a10) : ∃ n, wX_prepare_7 post 3 2 fl ct ab cn cg ylo yhi ylv yhv n 0 (fun _ => 0) a2 a3 a4 a5 a6 a7 a8 a9 a10 := by
  refine pk_loop (fun n i s => wX_prepare_7 post 3 2 fl ct ab cn cg ylo yhi ylv yhv n (nI i) (fun _ => 0) a2 a3 a4 s a6 a7 a8 a9 a10) (fun i s => ∀ j, j < i → s j = nI (wc_w a4 (j / 3) (j % 3))) 18 0 a5 (by omega) (fun j hj => absurd hj (by omega))
    (fun n s h => pk_le 18 18 (fun _ => H s h) (fun z => absurd z (by omega))) ?_
  intro n i s hi h hw
  have ed : nI i / 3 = nI (i / 3) := pk_div (d := 3) (by omega) (by omega) (by omega)
  have er : nI i - nI i / 3 * 3 = nI (i % 3) := pk_rem (d := 3) (by omega) (by omega) (by omega)
  have ec : (((a4 (nI i / 3).toNatClampNeg) >>> ((nI i - nI i / 3 * 3) &&& 31)) &&& 1) = 1 ↔ wc_al a4 (i / 3) (i % 3) = true := by
    rw [er, ed, nI_clamp (show i / 3 < 2 ^ 31 by omega)]
    exact decide_eq_true_iff.symm
  have F : ∀ x : Int32, x = nI (wc_w a4 (i / 3) (i % 3)) → ∀ j, j < i + 1 → upd s (nI i).toNatClampNeg x j = nI (wc_w a4 (j / 3) (j % 3)) := fun x hx => wc_fill (f := fun j => nI (wc_w a4 (j / 3) (j % 3))) (nI_clamp (by omega)) h hx
  refine pk_le 18 i (fun z => absurd z (by omega)) (fun _ => ⟨by decide, pk_in (i / 3) 6 (by omega) ed, by decide, ek_if ec (fun d => ?_) (fun d => ?_)⟩)
  · have hx : (0 : Int32) = nI (wc_w a4 (i / 3) (i % 3)) := by
      unfold wc_w
      rw [if_pos d]
      rfl
    exact br_f (by decide) ⟨pk_in i 18 hi, br_f (show ¬ (0 : Int32) = 99 by decide) ⟨pk_in i 18 hi, pk_in i 18 hi, nm_e (nm_r (nI_1 i) (hw _ (F _ hx)))⟩⟩
  · have hx : (1000000 : Int32) = nI (wc_w a4 (i / 3) (i % 3)) := by
      unfold wc_w
      rw [if_neg d]
      rfl
    exact br_t rfl ⟨pk_in i 18 hi, nm_e (nm_r (nI_1 i) (hw _ (F _ hx)))⟩
theorem wc_prepare {post : St2 → Prop} {fl ct ab cn cg ylo yhi ylv yhv : Int32} {a3 a4 a5 a6 a7 a8 a9 a10 : Nat → Int32} (B : Nat → Nat) (hB : ∀ j, B j ≤ 99) (H : ∀ f s p, wc_G (wc_T a4 B) f s p → post (3, 2, (nI f), ct, ab, cn, cg, ylo, yhi, ylv, yhv, (fun _ => 0), (wc_ar B), a3, a4, (wc_ar s), (wc_ar p), a7, a8, a9, a10)) :
    wpX_prepare post (3, 2, fl, ct, ab, cn, cg, ylo, yhi, ylv, yhv, (fun _ => 0), (wc_ar B), a3, a4, a5, a6, a7, a8, a9, a10) := by
  refine wc_pr7 (fun a5' h5 => wc_pr77 (fun a6' h6 => ?_))
  have hs : ∀ v b, v < 3 → b < 2 → (a5' (3 * v + b)).toBitVec.toNat = wc_w a4 v b := by
    intro v b hv hb
    rw [h5 (3 * v + b) (by omega), show (3 * v + b) / 3 = v by omega, show (3 * v + b) % 3 = b by omega]
    exact pk_tn (Nat.lt_of_le_of_lt (wc_w_le a4 v b) (by decide))
  have hp : ∀ j, j < 324 → (a6' j).toBitVec.toNat = wc_q (B j) := by
    intro j hj
    have hb := hB j
    rw [h6 j hj]
    show (if nI (B j) = nI 99 then nI 1000000 else nI (B j)).toBitVec.toNat = _
    unfold wc_q
    by_cases e : B j = 99
    · rw [if_pos e, if_pos (by rw [e])]
      exact pk_tn (by omega)
    · rw [if_neg e, if_neg (fun z => e ((nI_eq (by omega) (by omega)).mp z))]
      exact pk_tn (by omega)
  rw [wc_any a5', wc_any a6']
  refine wc_pr125 (f := 0) (wc_T_le a4 B hB) ?_ H
  intro a b c ha hb hc
  have q1 := hs 0 a (by omega) ha
  have q2 := hs 1 b (by omega) hb
  have q3 := hs 2 c (by omega) hc
  rw [show 3 * 0 + a = a by omega] at q1
  show 0 + (a5' a).toBitVec.toNat + (a5' (3 + b)).toBitVec.toNat + (a5' (6 + c)).toBitVec.toNat + (a6' (9 + 3 * a + b)).toBitVec.toNat + (a6' (18 + 3 * a + c)).toBitVec.toNat + (a6' (72 + 3 * b + c)).toBitVec.toNat = _
  rw [hp (9 + 3 * a + b) (by omega), hp (18 + 3 * a + c) (by omega), hp (72 + 3 * b + c) (by omega), q1, show (a5' (3 + b)).toBitVec.toNat = wc_w a4 1 b from q2, show (a5' (6 + c)).toBitVec.toNat = wc_w a4 2 c from q3, Nat.zero_add]
  rfl
end
section
/-- one arrival: (cut, counted) -/
def wc_st (m : Bool) (x : Nat) (q : Nat × Nat) : Nat × Nat := if x < q.1 then (if m = true then (q.1, q.2 + 1) else (x, q.2)) else q
def wc_one (c : Bool) (f : Nat × Nat → Nat × Nat) (q : Nat × Nat) : Nat × Nat := if c = true then f q else q
def wc_two (al : Nat → Bool) (f : Nat → Nat × Nat → Nat × Nat) (q : Nat × Nat) : Nat × Nat := wc_one (al 1) (f 1) (wc_one (al 0) (f 0) q)
def wc_lf (m : Bool) (a4 : Nat → Int32) (t : Nat → Nat) (q : Nat × Nat) : Nat × Nat := wc_two (wc_al a4 2) (fun c => wc_st m (t c)) q
def wc_mi (m : Bool) (a4 : Nat → Int32) (t : Nat → Nat → Nat) (q : Nat × Nat) : Nat × Nat := wc_two (wc_al a4 1) (fun b => wc_lf m a4 (t b)) q
def wc_top (m : Bool) (a4 : Nat → Int32) (T : Nat → Nat → Nat → Nat) (q : Nat × Nat) : Nat × Nat := wc_two (wc_al a4 0) (fun a => wc_mi m a4 (T a)) q
theorem wc_st_le (m : Bool) (x : Nat) (q : Nat × Nat) : (wc_st m x q).1 ≤ q.1 := by
  unfold wc_st
  by_cases h : x < q.1
  · rw [if_pos h]
    cases m
    · exact Nat.le_of_lt h
    · exact Nat.le_refl _
  · rw [if_neg h]
    exact Nat.le_refl _
theorem wc_st_ge {m : Bool} {x : Nat} {q : Nat × Nat} (h : q.1 ≤ x) : wc_st m x q = q := if_neg (by omega)
theorem wc_st_cap {m : Bool} {x t : Nat} {q : Nat × Nat} (hq : q.1 ≤ 500000) (h : x = t ∨ (500000 ≤ x ∧ 500000 ≤ t)) : wc_st m x q = wc_st m t q := by
  rcases h with rfl | ⟨h1, h2⟩
  · rfl
  · rw [wc_st_ge (by omega), wc_st_ge (by omega)]
theorem wc_one_le {c : Bool} {f : Nat × Nat → Nat × Nat} {q : Nat × Nat} (h : ∀ q, (f q).1 ≤ q.1) : (wc_one c f q).1 ≤ q.1 := by
  unfold wc_one
  split
  · exact h q
  · exact Nat.le_refl _
theorem wc_two_le {al : Nat → Bool} {f : Nat → Nat × Nat → Nat × Nat} {q : Nat × Nat} (h : ∀ b q, (f b q).1 ≤ q.1) : (wc_two al f q).1 ≤ q.1 := Nat.le_trans (wc_one_le (h 1)) (wc_one_le (h 0))
theorem wc_two_skip {al : Nat → Bool} {f : Nat → Nat × Nat → Nat × Nat} {q : Nat × Nat} (h : ∀ b, b < 2 → al b = true → f b q = q) : wc_two al f q = q := by
  have h0 : wc_one (al 0) (f 0) q = q := by
    unfold wc_one
    split
    · exact h 0 (by omega) (by assumption)
    · rfl
  have h1 : wc_one (al 1) (f 1) q = q := by
    unfold wc_one
    split
    · exact h 1 (by omega) (by assumption)
    · rfl
  unfold wc_two
  rw [h0, h1]
theorem wc_lf_le (m : Bool) (a4 : Nat → Int32) (t : Nat → Nat) (q : Nat × Nat) : (wc_lf m a4 t q).1 ≤ q.1 := wc_two_le (fun _ _ => wc_st_le _ _ _)
theorem wc_mi_le (m : Bool) (a4 : Nat → Int32) (t : Nat → Nat → Nat) (q : Nat × Nat) : (wc_mi m a4 t q).1 ≤ q.1 := wc_two_le (fun _ _ => wc_lf_le _ _ _ _)
theorem wc_lf_skip {m : Bool} {a4 : Nat → Int32} {t : Nat → Nat} {q : Nat × Nat} (h : ∀ c, c < 2 → wc_al a4 2 c = true → q.1 ≤ t c) : wc_lf m a4 t q = q := wc_two_skip (fun c hc hal => wc_st_ge (h c hc hal))
theorem wc_mi_skip {m : Bool} {a4 : Nat → Int32} {t : Nat → Nat → Nat} {q : Nat × Nat} (h : ∀ b c, b < 2 → c < 2 → wc_al a4 1 b = true → wc_al a4 2 c = true → q.1 ≤ t b c) : wc_mi m a4 t q = q := wc_two_skip (fun b hb hal => wc_lf_skip (fun c hc hal2 => h b c hb hc hal hal2))
theorem wc_one_t {c : Bool} {f : Nat × Nat → Nat × Nat} {q : Nat × Nat} (h : c = true) : wc_one c f q = f q := if_pos h
theorem wc_one_f {c : Bool} {f : Nat × Nat → Nat × Nat} {q : Nat × Nat} (h : ¬ c = true) : wc_one c f q = q := if_neg h
theorem wc_nm1 {x : Nat} (h : x < 2 ^ 31) : ¬ nI x ≤ (-1) := by
  rw [Int32.le_iff_toInt_le, nI_toInt h, show (-1 : Int32).toInt = -1 from by decide]
  omega
/-- the two modes: least (above = -1) and count -/
def wc_md (m : Bool) (ab cg : Int32) : Prop := (m = false ∧ ab = -1 ∧ cg = 0) ∨ (m = true ∧ cg = 1)
theorem wc_arrive {post : St2 → Prop} {fl ab cg ylo yhi ylv yhv : Int32} {a1 a2 a3 a4 a5 a6 a7 a8 a9 a10 : Nat → Int32} (m : Bool) (q : Nat × Nat) (x : Nat) (hx : x < 2 ^ 31) (hq : q.1 < 2 ^ 31) (hm : wc_md m ab cg)
    (H : ∀ a10' : Nat → Int32, post (3, 2, fl, (nI (wc_st m x q).1), ab, (nI (wc_st m x q).2), cg, ylo, yhi, ylv, yhv, a1, a2, a3, a4, a5, a6, a7, a8, a9, a10')) : wpX_arrive post (3, 2, fl, (nI q.1), ab, (nI q.2), cg, ylo, yhi, ylv, yhv, a1, a2, a3, a4, a5, a6, a7, a8, a9, a10) (nI x) := by
  rcases hm with ⟨rfl, rfl, rfl⟩ | ⟨rfl, rfl⟩
  · refine br_t rfl (br_f (wc_nm1 hx) (pk_le q.1 x (fun h => ?_) (fun h => ?_)))
    · have H' := H a10
      rw [wc_st_ge h] at H'
      exact H'
    · have e : wc_st false x q = (x, q.2) := if_pos h
      rw [e] at H
      exact pk_loop (fun n i s => wX_arrive_51 post 3 2 fl (nI x) (-1) (nI q.2) 0 ylo yhi ylv yhv n (nI i) a1 a2 a3 a4 a5 a6 a7 a8 a9 s) (fun _ _ => True) 3 0 a10 (by omega) trivial
        (fun n s _ => pk_le 3 3 (fun _ => H s) (fun z => absurd z (by omega)))
        (fun n i s hi _ hw => pk_le 3 i (fun z => absurd z (by omega)) (fun _ => ⟨pk_in i 7 (by omega), pk_in i 6 (by omega), nm_e (nm_r (nI_1 i) (hw _ trivial))⟩))
  · refine br_f (by decide) (pk_le q.1 x (fun h => ?_) (fun h => nm_r (nI_1 q.2) ?_))
    · have H' := H a10
      rw [wc_st_ge h] at H'
      exact H'
    · have e : wc_st true x q = (q.1, q.2 + 1) := if_pos h
      have H' := H a10
      rw [e] at H'
      exact H'
theorem wc_rm93 {post : Int32 → St2 → Prop} {J J21 : Int32 → Int32 → (Nat → Int32) → (Nat → Int32) → (Nat → Int32) → (Nat → Int32) → (Nat → Int32) → (Nat → Int32) → (Nat → Int32) → (Nat → Int32) → (Nat → Int32) → (Nat → Int32) → Prop} {x2 : Int32} {fl ct ab cn cg ylo yhi ylv yhv : Int32} {a1 a2 a3 a4 a5 a6 a7 a8 a9 a10 : Nat → Int32} (D w b m t : Nat) (hD : D < 2) (hw : w < 3) (hb : b < 2) (hm : m < 2 ^ 31) (ht : t < 2 ^ 31)
    (H : ∀ m', m' ≤ m → (wc_al a4 w b = true → m' ≤ t) → J21 (nI m') (nI (b + 1)) a1 a2 a3 a4 a5 a6 (upd a7 (18 * D + 18 + 3 * w + b) (nI t)) a8 a9 a10) :
    wX_remaining_93 post J J21 (nI D) x2 (nI w) (nI m) (nI b) (nI t) 3 2 fl ct ab cn cg ylo yhi ylv yhv a1 a2 a3 a4 a5 a6 a7 a8 a9 a10 := by
  have ec : (((a4 (nI w).toNatClampNeg) >>> (nI b &&& 31)) &&& 1) = 1 ↔ wc_al a4 w b = true := by
    rw [nI_clamp (show w < 2 ^ 31 by omega)]
    exact decide_eq_true_iff.symm
  refine ⟨pk_in _ 126 (by omega) (wc_36 D w b), nm_r (by rw [pk_cl _ (wc_36 D w b)]) ⟨pk_in w 6 (by omega), ek_if ec (fun d => ?_) (fun d => ?_)⟩⟩
  · exact pk_le m t (fun h => nm_r (nI_1 b) (H m (Nat.le_refl _) (fun _ => h))) (fun h => nm_r (nI_1 b) (H t (Nat.le_of_lt h) (fun _ => Nat.le_refl _)))
  · exact nm_r (nI_1 b) (H m (Nat.le_refl _) (fun z => absurd z d))
theorem wc_rm21 {post : Int32 → St2 → Prop} {J : Int32 → Int32 → (Nat → Int32) → (Nat → Int32) → (Nat → Int32) → (Nat → Int32) → (Nat → Int32) → (Nat → Int32) → (Nat → Int32) → (Nat → Int32) → (Nat → Int32) → (Nat → Int32) → Prop} {x2 : Int32} {p : Nat → Nat} {fl ct ab cn cg ylo yhi ylv yhv : Int32} {a1 a2 a3 a4 a5 a7 a8 a9 a10 : Nat → Int32} (n D w v b m e : Nat) (hD : D < 2) (hw : w < 3) (hv : v < 2) (hb : b < 2) (hm : m ≤ 1000000) (he : e ≤ 100000000) (hp : p ((6 * D + w) * 9 + 3 * v + b) ≤ 100000000) (h9 : a9 D = nI v) (h7 : a7 (18 * D + 3 * w + b) = nI e)
    (H : ∀ m', m' ≤ m → (wc_al a4 w b = true → m' ≤ min (e + p ((6 * D + w) * 9 + 3 * v + b)) 3000000) → wX_remaining_21 post J (nI D) x2 (nI w) 3 2 fl ct ab cn cg ylo yhi ylv yhv n (nI m') (nI (b + 1)) a1 a2 a3 a4 a5 (wc_ar p) (upd a7 (18 * D + 18 + 3 * w + b) (nI (min (e + p ((6 * D + w) * 9 + 3 * v + b)) 3000000))) a8 a9 a10) :
    wX_remaining_21 post J (nI D) x2 (nI w) 3 2 fl ct ab cn cg ylo yhi ylv yhv (n + 1) (nI m) (nI b) a1 a2 a3 a4 a5 (wc_ar p) a7 a8 a9 a10 := by
  have c : (((((6 * nI D) + nI w) * 9) + (3 * (a9 (nI D).toNatClampNeg))) + nI b) = nI ((6 * D + w) * 9 + 3 * v + b) := by
    rw [nI_clamp (show D < 2 ^ 31 by omega), h9]
    exact wc_cell D w v b
  have c7 := wc_18 D w b
  have e7 : a7 (((18 * nI D) + (3 * nI w)) + nI b).toNatClampNeg + nI (p ((6 * D + w) * 9 + 3 * v + b)) = nI (e + p ((6 * D + w) * 9 + 3 * v + b)) := by
    rw [pk_cl _ c7, h7, nI_add]
  refine pk_le 2 b (fun z => absurd z (by omega)) (fun _ => ⟨pk_in D 7 (by omega), pk_in _ 324 (by omega) c, nm_r (wc_get _ (pk_cl _ c)) ⟨pk_in _ 126 (by omega) c7, nm_r e7 (pk_le (e + p ((6 * D + w) * 9 + 3 * v + b)) 3000000 (fun h => ?_) (fun h => ?_))⟩⟩)
  · rw [Nat.min_eq_left h] at H
    exact wc_rm93 D w b m _ hD hw hb (by omega) (by omega) H
  · rw [Nat.min_eq_right (Nat.le_of_lt h)] at H
    exact wc_rm93 D w b m 3000000 hD hw hb (by omega) (by omega) H
theorem wc_rmw {post : Int32 → St2 → Prop} {J : Int32 → Int32 → (Nat → Int32) → (Nat → Int32) → (Nat → Int32) → (Nat → Int32) → (Nat → Int32) → (Nat → Int32) → (Nat → Int32) → (Nat → Int32) → (Nat → Int32) → (Nat → Int32) → Prop} {x2 : Int32} {p : Nat → Nat} {fl ct ab cn cg ylo yhi ylv yhv : Int32} {a1 a2 a3 a4 a5 a7 a8 a9 a10 : Nat → Int32} (D w v : Nat) (e : Nat → Nat) (hD : D < 2) (hw : w < 3) (hv : v < 2) (he : ∀ b, b < 2 → e b ≤ 100000000) (hp : ∀ b, b < 2 → p ((6 * D + w) * 9 + 3 * v + b) ≤ 100000000) (h9 : a9 D = nI v) (h7 : ∀ b, b < 2 → a7 (18 * D + 3 * w + b) = nI (e b))
    (H : ∀ m a7', m ≤ 1000000 → (∀ b, b < 2 → wc_al a4 w b = true → m ≤ min (e b + p ((6 * D + w) * 9 + 3 * v + b)) 3000000) → (∀ j, j ≠ 18 * D + 18 + 3 * w → j ≠ 18 * D + 18 + 3 * w + 1 → a7' j = a7 j) → (∀ b, b < 2 → a7' (18 * D + 18 + 3 * w + b) = nI (min (e b + p ((6 * D + w) * 9 + 3 * v + b)) 3000000)) → J (x2 + nI m) (nI (w + 1)) a1 a2 a3 a4 a5 (wc_ar p) a7' a8 a9 a10) :
    ∃ n, wX_remaining_21 post J (nI D) x2 (nI w) 3 2 fl ct ab cn cg ylo yhi ylv yhv n 1000000 0 a1 a2 a3 a4 a5 (wc_ar p) a7 a8 a9 a10 := by
  have g7 : upd a7 (18 * D + 18 + 3 * w + 0) (nI (min (e 0 + p ((6 * D + w) * 9 + 3 * v + 0)) 3000000)) (18 * D + 3 * w + 1) = nI (e 1) := by
    rw [pk_un (by omega)]
    exact h7 1 (by omega)
  refine ⟨3, wc_rm21 2 D w v 0 1000000 (e 0) hD hw hv (by omega) (by omega) (he 0 (by omega)) (hp 0 (by omega)) h9 (h7 0 (by omega)) (fun m0 h0 k0 => wc_rm21 1 D w v 1 m0 (e 1) hD hw hv (by omega) h0 (he 1 (by omega)) (hp 1 (by omega)) h9 g7 (fun m1 h1 k1 => br_t (by decide) (nm_e (nm_r (nI_1 w) (H m1 _ (by omega) ?_ ?_ ?_)))))⟩
  · intro b hb hal
    rcases wc_01 hb with rfl | rfl
    · exact Nat.le_trans h1 (k0 hal)
    · exact k1 hal
  · intro j j0 j1
    rw [pk_un j1, pk_un (by omega)]
  · intro b hb
    rcases wc_01 hb with rfl | rfl
    · rw [pk_un (by omega), pk_us]
    · rw [pk_us]
theorem wc_z (m : Nat) : (0 : Int32) + nI m = nI m := by
  show nI 0 + nI m = _
  rw [nI_add, Nat.zero_add]
theorem wc_rem1 {post : Int32 → St2 → Prop} {p : Nat → Nat} {fl ct ab cn cg ylo yhi ylv yhv : Int32} {a1 a2 a3 a4 a5 a7 a8 a9 a10 : Nat → Int32} (v : Nat) (e : Nat → Nat) (hv : v < 2) (he : ∀ b, b < 2 → e b ≤ 100000000) (hp : ∀ b, b < 2 → p (72 + 3 * v + b) ≤ 100000000) (h9 : a9 1 = nI v) (h7 : ∀ b, b < 2 → a7 (24 + b) = nI (e b))
    (H : ∀ m a7', m ≤ 1000000 → (∀ b, b < 2 → wc_al a4 2 b = true → m ≤ min (e b + p (72 + 3 * v + b)) 3000000) → (∀ j, j < 36 → a7' j = a7 j) → (∀ b, b < 2 → a7' (42 + b) = nI (min (e b + p (72 + 3 * v + b)) 3000000)) → post (nI m) (3, 2, fl, ct, ab, cn, cg, ylo, yhi, ylv, yhv, a1, a2, a3, a4, a5, (wc_ar p), a7', a8, a9, a10)) :
    wpX_remaining post (3, 2, fl, ct, ab, cn, cg, ylo, yhi, ylv, yhv, a1, a2, a3, a4, a5, (wc_ar p), a7, a8, a9, a10) (nI 1) := by
  refine nm_r (nI_1 1) ⟨2, br_f (by decide) (wc_rmw 1 2 v e (by omega) (by omega) hv he hp h9 h7 (fun m a7' hm h1 h2 h3 => br_t (by decide) ?_))⟩
  rw [wc_z]
  exact H m a7' hm h1 (fun j hj => h2 j (by omega) (by omega)) h3
theorem wc_rem0 {post : Int32 → St2 → Prop} {p : Nat → Nat} {fl ct ab cn cg ylo yhi ylv yhv : Int32} {a1 a2 a3 a4 a5 a7 a8 a9 a10 : Nat → Int32} (v : Nat) (e : Nat → Nat → Nat) (hv : v < 2) (he : ∀ w b, w < 3 → b < 2 → e w b ≤ 100000000) (hp : ∀ w b, 0 < w → w < 3 → b < 2 → p ((6 * 0 + w) * 9 + 3 * v + b) ≤ 100000000) (h9 : a9 0 = nI v) (h7 : ∀ w b, w < 3 → b < 2 → a7 (3 * w + b) = nI (e w b))
    (H : ∀ m1 m2 a7', m1 ≤ 1000000 → m2 ≤ 1000000 → (∀ b, b < 2 → wc_al a4 1 b = true → m1 ≤ min (e 1 b + p (9 + 3 * v + b)) 3000000) → (∀ b, b < 2 → wc_al a4 2 b = true → m2 ≤ min (e 2 b + p (18 + 3 * v + b)) 3000000) → (∀ j, j < 18 → a7' j = a7 j) → (∀ b, b < 2 → a7' (21 + b) = nI (min (e 1 b + p (9 + 3 * v + b)) 3000000)) → (∀ b, b < 2 → a7' (24 + b) = nI (min (e 2 b + p (18 + 3 * v + b)) 3000000)) → post (nI (m1 + m2)) (3, 2, fl, ct, ab, cn, cg, ylo, yhi, ylv, yhv, a1, a2, a3, a4, a5, (wc_ar p), a7', a8, a9, a10)) :
    wpX_remaining post (3, 2, fl, ct, ab, cn, cg, ylo, yhi, ylv, yhv, a1, a2, a3, a4, a5, (wc_ar p), a7, a8, a9, a10) (nI 0) := by
  have g7 : ∀ w b, w < 3 → b < 2 → a7 (18 * 0 + 3 * w + b) = nI (e w b) := by
    intro w b hw hb
    rw [show 18 * 0 + 3 * w + b = 3 * w + b by omega]
    exact h7 w b hw hb
  refine nm_r (nI_1 0) ⟨3, br_f (by decide) (wc_rmw 0 1 v (e 1) (by omega) (by omega) hv (fun b => he 1 b (by omega)) (fun b => hp 1 b (by omega) (by omega)) h9 (fun b => g7 1 b (by omega)) (fun m1 b7 hm1 h1 h2 h3 => br_f (by decide) (wc_rmw 0 2 v (e 2) (by omega) (by omega) hv (fun b => he 2 b (by omega)) (fun b => hp 2 b (by omega) (by omega)) h9 ?_ (fun m2 a7' hm2 k1 k2 k3 => br_t (by decide) ?_))))⟩
  · intro b hb
    rw [h2 _ (by omega) (by omega)]
    exact g7 2 b (by omega) hb
  · rw [wc_z, nI_add]
    refine H m1 m2 a7' hm1 hm2 h1 k1 (fun j hj => ?_) (fun b hb => ?_) k3
    · rw [k2 j (by omega) (by omega), h2 j (by omega) (by omega)]
    · rw [k2 (21 + b) (by omega) (by omega)]
      exact h3 b hb
end
section
theorem wc_se2 {post : St2 → Prop} {fl ab cg ylo yhi ylv yhv : Int32} {a1 a2 a3 a4 a5 a6 a7 a8 a9 a10 : Nat → Int32} (m : Bool) (q : Nat × Nat) (n k b r e t : Nat) (hk : k < 4000) (hb : b < 2) (hm : wc_md m ab cg) (hq : q.1 ≤ 500000) (hr : r ≤ 100000000) (he : e ≤ 100000000) (h9 : a9 2 + 1 = nI b) (h8 : a8 2 = nI r) (h7 : a7 (42 + b) = nI e) (ht : r + e = t ∨ (500000 ≤ r + e ∧ 500000 ≤ t))
    (H : ∀ a10' : Nat → Int32, wX_search_47 post n (nI 2) (nI (k + 1)) 3 2 fl (nI (wc_one (wc_al a4 2 b) (wc_st m t) q).1) ab (nI (wc_one (wc_al a4 2 b) (wc_st m t) q).2) cg ylo yhi ylv yhv a1 a2 a3 a4 a5 a6 a7 a8 (upd a9 2 (nI b)) a10') :
    wX_search_47 post (n + 1) (nI 2) (nI k) 3 2 fl (nI q.1) ab (nI q.2) cg ylo yhi ylv yhv a1 a2 a3 a4 a5 a6 a7 a8 a9 a10 := by
  have cl : (nI 2).toNatClampNeg = 2 := nI_clamp (by omega)
  have e9 : upd a9 2 (nI b) (nI 2).toNatClampNeg = nI b := by
    rw [cl]
    exact pk_us
  have ec : (((a4 (nI 2).toNatClampNeg) >>> ((upd a9 2 (nI b) (nI 2).toNatClampNeg) &&& 31)) &&& 1) = 1 ↔ wc_al a4 2 b = true := by
    rw [e9, cl]
    exact decide_eq_true_iff.symm
  have ci : (((18 * nI 2) + (3 * nI 2)) + (upd a9 2 (nI b) (nI 2).toNatClampNeg)) = nI (42 + b) := by
    rw [e9]
    exact wc_18 2 2 b
  have e3 : a8 (nI 2).toNatClampNeg + a7 (((18 * nI 2) + (3 * nI 2)) + (upd a9 2 (nI b) (nI 2).toNatClampNeg)).toNatClampNeg = nI (r + e) := by
    rw [pk_cl _ ci, cl, h8, h7, nI_add]
  refine pk_le 4000 k (fun z => absurd z (by omega)) (fun _ => ⟨pk_in 2 7 (by omega), pk_in 2 7 (by omega), nm_r (e' := upd a9 2 (nI b)) (by rw [cl, h9]) ⟨pk_in 2 7 (by omega), pk_eq b 2 (fun z => absurd z (by omega)) (fun _ => ⟨pk_in 2 6 (by omega), pk_in 2 7 (by omega), ek_if ec (fun d => ⟨pk_in 2 7 (by omega), pk_in 2 7 (by omega), pk_in _ 126 (by omega) ci, nm_r e3 (br_t (by decide) (wc_arrive m q (r + e) (by omega) (by omega) hm (fun a10' => nm_r (nI_1 k) ?_)))⟩) (fun d => nm_r (nI_1 k) ?_)⟩) e9⟩⟩)
  · have H' := H a10'
    rw [wc_one_t d, ← wc_st_cap hq ht] at H'
    exact H'
  · have H' := H a10
    rw [wc_one_f d] at H'
    exact H'
theorem wc_ex {post : St2 → Prop} {fl ct ab cn cg ylo yhi ylv yhv : Int32} {a1 a2 a3 a4 a5 a6 a7 a8 a9 a10 : Nat → Int32} (n k D : Nat) (hk : k < 4000) (hD : D < 2) (h9 : a9 (D + 1) + 1 = nI 2) (H : wX_search_47 post n (nI D) (nI (k + 1)) 3 2 fl ct ab cn cg ylo yhi ylv yhv a1 a2 a3 a4 a5 a6 a7 a8 (upd a9 (D + 1) (nI 2)) a10) : wX_search_47 post (n + 1) (nI (D + 1)) (nI k) 3 2 fl ct ab cn cg ylo yhi ylv yhv a1 a2 a3 a4 a5 a6 a7 a8 a9 a10 := by
  have cl : (nI (D + 1)).toNatClampNeg = D + 1 := nI_clamp (by omega)
  exact pk_le 4000 k (fun z => absurd z (by omega)) (fun _ => ⟨pk_in (D + 1) 7 (by omega), pk_in (D + 1) 7 (by omega), nm_r (e' := upd a9 (D + 1) (nI 2)) (by rw [cl, h9]) ⟨pk_in (D + 1) 7 (by omega), br_t (by rw [cl]; exact pk_us) (nm_r (pk_m1 D) (br_t (nI_pos' (by omega)) (nm_r (nI_1 k) H)))⟩⟩)
theorem wc_full2 {post : St2 → Prop} {fl ab cg ylo yhi ylv yhv : Int32} {a1 a2 a3 a4 a5 a6 a7 a8 a9 a10 : Nat → Int32} (m : Bool) (q : Nat × Nat) (n k r : Nat) (e t : Nat → Nat) (hk : k < 3990) (hm : wc_md m ab cg) (hq : q.1 ≤ 500000) (hr : r ≤ 100000000) (he : ∀ c, c < 2 → e c ≤ 100000000) (h9 : a9 2 = -1) (h8 : a8 2 = nI r) (h7 : ∀ c, c < 2 → a7 (42 + c) = nI (e c)) (ht : ∀ c, c < 2 → r + e c = t c ∨ (500000 ≤ r + e c ∧ 500000 ≤ t c))
    (H : ∀ a9' a10' : Nat → Int32, (∀ j, j < 2 → a9' j = a9 j) → wX_search_47 post n (nI 1) (nI (k + 3)) 3 2 fl (nI (wc_lf m a4 t q).1) ab (nI (wc_lf m a4 t q).2) cg ylo yhi ylv yhv a1 a2 a3 a4 a5 a6 a7 a8 a9' a10') :
    wX_search_47 post (n + 3) (nI 2) (nI k) 3 2 fl (nI q.1) ab (nI q.2) cg ylo yhi ylv yhv a1 a2 a3 a4 a5 a6 a7 a8 a9 a10 := by
  refine wc_se2 m q (n + 2) k 0 r (e 0) (t 0) (by omega) (by omega) hm hq hr (he 0 (by omega)) (by rw [h9]; decide) h8 (h7 0 (by omega)) (ht 0 (by omega)) (fun b10 => ?_)
  refine wc_se2 m _ (n + 1) (k + 1) 1 r (e 1) (t 1) (by omega) (by omega) hm (Nat.le_trans (wc_one_le (fun _ => wc_st_le _ _ _)) hq) hr (he 1 (by omega)) (by rw [pk_us]; exact nI_1 0) h8 (h7 1 (by omega)) (ht 1 (by omega)) (fun c10 => ?_)
  refine wc_ex n (k + 2) 1 (by omega) (by omega) (by rw [pk_us]; exact nI_1 1) ?_
  exact H _ c10 (fun j hj => by rw [pk_un (by omega), pk_un (by omega), pk_un (by omega)])
theorem wc_node1 {post : St2 → Prop} {p : Nat → Nat} {fl ab cg ylo yhi ylv yhv : Int32} {a1 a2 a3 a4 a5 a7 a8 a9 a10 : Nat → Int32} (m : Bool) (q : Nat × Nat) (n k b r e1 : Nat) (e2 t : Nat → Nat) (hn : 3 ≤ n) (hk : k < 3980) (hb : b < 2) (hm : wc_md m ab cg) (hq : q.1 ≤ 500000) (hr : r ≤ 20000000) (he1 : e1 ≤ 3000000) (he2 : ∀ c, c < 2 → e2 c ≤ 3000000) (hp : ∀ c, c < 2 → p (72 + 3 * b + c) ≤ 10000000)
    (h9 : a9 1 + 1 = nI b) (h8 : a8 1 = nI r) (h7 : a7 (21 + b) = nI e1) (h7' : ∀ c, c < 2 → a7 (24 + c) = nI (e2 c))
    (ht : ∀ c, c < 2 → r + e1 + min (e2 c + p (72 + 3 * b + c)) 3000000 = t c ∨ (500000 ≤ r + e1 + min (e2 c + p (72 + 3 * b + c)) 3000000 ∧ 500000 ≤ t c))
    (H : ∀ (n' k' : Nat) (a7' a8' a9' a10' : Nat → Int32), n' + k' = n + (k + 1) → k' ≤ k + 4 → (∀ j, j < 36 → a7' j = a7 j) → (∀ j, j < 2 → a8' j = a8 j) → a9' 0 = a9 0 → a9' 1 = nI b → wX_search_47 post n' (nI 1) (nI k') 3 2 fl (nI (wc_one (wc_al a4 1 b) (wc_lf m a4 t) q).1) ab (nI (wc_one (wc_al a4 1 b) (wc_lf m a4 t) q).2) cg ylo yhi ylv yhv a1 a2 a3 a4 a5 (wc_ar p) a7' a8' a9' a10') :
    wX_search_47 post (n + 1) (nI 1) (nI k) 3 2 fl (nI q.1) ab (nI q.2) cg ylo yhi ylv yhv a1 a2 a3 a4 a5 (wc_ar p) a7 a8 a9 a10 := by
  have cl : (nI 1).toNatClampNeg = 1 := nI_clamp (by omega)
  have cl2 : (nI 2).toNatClampNeg = 2 := nI_clamp (by omega)
  have e9 : upd a9 1 (nI b) (nI 1).toNatClampNeg = nI b := by
    rw [cl]
    exact pk_us
  have ec : (((a4 (nI 1).toNatClampNeg) >>> ((upd a9 1 (nI b) (nI 1).toNatClampNeg) &&& 31)) &&& 1) = 1 ↔ wc_al a4 1 b = true := by
    rw [e9, cl]
    exact decide_eq_true_iff.symm
  have ci : (((18 * nI 1) + (3 * nI 1)) + (upd a9 1 (nI b) (nI 1).toNatClampNeg)) = nI (21 + b) := by
    rw [e9]
    exact wc_18 1 1 b
  have e3 : a8 (nI 1).toNatClampNeg + a7 (((18 * nI 1) + (3 * nI 1)) + (upd a9 1 (nI b) (nI 1).toNatClampNeg)).toNatClampNeg = nI (r + e1) := by
    rw [pk_cl _ ci, cl, h8, h7, nI_add]
  have o9 : upd a9 1 (nI b) 0 = a9 0 := pk_un (by omega)
  refine pk_le 4000 k (fun z => absurd z (by omega)) (fun _ => ⟨pk_in 1 7 (by omega), pk_in 1 7 (by omega), nm_r (e' := upd a9 1 (nI b)) (by rw [cl, h9]) ⟨pk_in 1 7 (by omega), pk_eq b 2 (fun z => absurd z (by omega)) (fun _ => ⟨pk_in 1 6 (by omega), pk_in 1 7 (by omega), ek_if ec (fun d => ⟨pk_in 1 7 (by omega), pk_in 1 7 (by omega), pk_in _ 126 (by omega) ci, nm_r e3 (br_f (by decide) (wc_rem1 b e2 hb (fun c hc => Nat.le_trans (he2 c hc) (by decide)) (fun c hc => Nat.le_trans (hp c hc) (by decide)) pk_us h7' (fun mm b7 hmm k1 k2 k3 => pk_le q.1 (r + e1 + mm) (fun h => nm_r (nI_1 k) ?_) (fun h => nm_r (nI_1 1) ⟨pk_in 2 7 (by omega), nm_r (e' := upd a8 2 (nI (r + e1))) (by rw [show nI (1 + 1) = nI 2 from rfl, cl2]) ⟨pk_in 2 7 (by omega), nm_r (e' := upd (upd a9 1 (nI b)) 2 (-1)) (by rw [show nI (1 + 1) = nI 2 from rfl, cl2]) (nm_r (nI_1 k) ?_)⟩⟩) rfl (nI_add _ _))))⟩) (fun d => nm_r (nI_1 k) ?_)⟩) e9⟩⟩)
  · have e : wc_one (wc_al a4 1 b) (wc_lf m a4 t) q = q := by
      rw [wc_one_t d]
      refine wc_lf_skip (fun c hc hal => ?_)
      have z1 := k1 c hc hal
      have z2 := ht c hc
      omega
    rw [e] at H
    exact H n (k + 1) b7 a8 _ a10 rfl (by omega) k2 (fun _ _ => rfl) o9 pk_us
  · rw [wc_one_t d] at H
    obtain ⟨n0, rfl⟩ : ∃ n0, n = n0 + 3 := ⟨n - 3, by omega⟩
    refine wc_full2 m q n0 (k + 1) (r + e1) (fun c => min (e2 c + p (72 + 3 * b + c)) 3000000) t (by omega) hm hq (by omega) (fun c hc => by omega) pk_us pk_us k3 ht (fun b9 b10 w9 => ?_)
    exact H n0 (k + 1 + 3) b7 _ b9 b10 (by omega) (by omega) k2 (fun j hj => pk_un (by omega)) ((w9 0 (by omega)).trans ((pk_un (by omega)).trans o9)) ((w9 1 (by omega)).trans ((pk_un (by omega)).trans pk_us))
  · rw [wc_one_f d] at H
    exact H n (k + 1) a7 a8 _ a10 rfl (by omega) (fun _ _ => rfl) (fun _ _ => rfl) o9 pk_us
theorem wc_full1 {post : St2 → Prop} {p : Nat → Nat} {fl ab cg ylo yhi ylv yhv : Int32} {a1 a2 a3 a4 a5 a7 a8 a9 a10 : Nat → Int32} (m : Bool) (q : Nat × Nat) (n k r : Nat) (e1 e2 : Nat → Nat) (t : Nat → Nat → Nat) (hn : 20 ≤ n) (hk : k < 3950) (hm : wc_md m ab cg) (hq : q.1 ≤ 500000) (hr : r ≤ 20000000) (he1 : ∀ b, b < 2 → e1 b ≤ 3000000) (he2 : ∀ c, c < 2 → e2 c ≤ 3000000) (hp : ∀ b c, b < 2 → c < 2 → p (72 + 3 * b + c) ≤ 10000000)
    (h9 : a9 1 = -1) (h8 : a8 1 = nI r) (h7 : ∀ b, b < 2 → a7 (21 + b) = nI (e1 b)) (h7' : ∀ c, c < 2 → a7 (24 + c) = nI (e2 c))
    (ht : ∀ b c, b < 2 → c < 2 → r + e1 b + min (e2 c + p (72 + 3 * b + c)) 3000000 = t b c ∨ (500000 ≤ r + e1 b + min (e2 c + p (72 + 3 * b + c)) 3000000 ∧ 500000 ≤ t b c))
    (H : ∀ (n' k' : Nat) (a7' a8' a9' a10' : Nat → Int32), n' + k' = n + k → k' ≤ k + 9 → (∀ j, j < 18 → a7' j = a7 j) → a8' 0 = a8 0 → a9' 0 = a9 0 → wX_search_47 post n' (nI 0) (nI k') 3 2 fl (nI (wc_mi m a4 t q).1) ab (nI (wc_mi m a4 t q).2) cg ylo yhi ylv yhv a1 a2 a3 a4 a5 (wc_ar p) a7' a8' a9' a10') :
    wX_search_47 post n (nI 1) (nI k) 3 2 fl (nI q.1) ab (nI q.2) cg ylo yhi ylv yhv a1 a2 a3 a4 a5 (wc_ar p) a7 a8 a9 a10 := by
  obtain ⟨n0, rfl⟩ : ∃ n0, n = n0 + 1 := ⟨n - 1, by omega⟩
  refine wc_node1 m q n0 k 0 r (e1 0) e2 (t 0) (by omega) (by omega) (by omega) hm hq hr (he1 0 (by omega)) he2 (fun c hc => hp 0 c (by omega) hc) (by rw [h9]; decide) h8 (h7 0 (by omega)) h7' (fun c hc => ht 0 c (by omega) hc) (fun n1 k1 b7 b8 b9 b10 x1 x2 x3 x4 x5 x6 => ?_)
  obtain ⟨n2, rfl⟩ : ∃ n2, n1 = n2 + 1 := ⟨n1 - 1, by omega⟩
  refine wc_node1 m _ n2 k1 1 r (e1 1) e2 (t 1) (by omega) (by omega) (by omega) hm (Nat.le_trans (wc_one_le (fun _ => wc_lf_le _ _ _ _)) hq) hr (he1 1 (by omega)) he2 (fun c hc => hp 1 c (by omega) hc) (by rw [x6]; exact nI_1 0) ((x4 1 (by omega)).trans h8) ((x3 _ (by omega)).trans (h7 1 (by omega))) (fun c hc => (x3 _ (by omega)).trans (h7' c hc)) (fun c hc => ht 1 c (by omega) hc) (fun n3 k3 c7 c8 c9 c10 y1 y2 y3 y4 y5 y6 => ?_)
  obtain ⟨n4, rfl⟩ : ∃ n4, n3 = n4 + 1 := ⟨n3 - 1, by omega⟩
  refine wc_ex n4 k3 0 (by omega) (by omega) (by rw [y6]; exact nI_1 1) ?_
  exact H n4 (k3 + 1) c7 c8 _ c10 (by omega) (by omega) (fun j hj => (y3 j (by omega)).trans (x3 j (by omega))) ((y4 0 (by omega)).trans (x4 0 (by omega))) ((pk_un (by omega)).trans (y5.trans x5))
theorem wc_node0 {post : St2 → Prop} {s p : Nat → Nat} {fl ab cg ylo yhi ylv yhv : Int32} {a1 a2 a3 a4 a5 a7 a8 a9 a10 : Nat → Int32} (m : Bool) (q : Nat × Nat) (n k a f : Nat) (t : Nat → Nat → Nat) (hn : 20 ≤ n) (hk : k < 3900) (ha : a < 2) (hm : wc_md m ab cg) (hq : q.1 ≤ 500000) (hf : f ≤ 10000000) (hs : ∀ w b, w < 3 → b < 2 → s (3 * w + b) ≤ 10000000) (hp0 : ∀ w b, 0 < w → w < 3 → b < 2 → p ((6 * 0 + w) * 9 + 3 * a + b) ≤ 10000000) (hp : ∀ b c, b < 2 → c < 2 → p (72 + 3 * b + c) ≤ 10000000)
    (h9 : a9 0 + 1 = nI a) (h8 : a8 0 = nI f) (h7 : ∀ w b, w < 3 → b < 2 → a7 (3 * w + b) = nI (s (3 * w + b)))
    (ht : ∀ b c, b < 2 → c < 2 → f + s a + (s (3 + b) + p (9 + 3 * a + b)) + (s (6 + c) + p (18 + 3 * a + c)) + p (72 + 3 * b + c) = t b c)
    (H : ∀ (n' k' : Nat) (a7' a8' a9' a10' : Nat → Int32), n' + k' = n + (k + 1) → k' ≤ k + 10 → (∀ j, j < 18 → a7' j = a7 j) → a8' 0 = a8 0 → a9' 0 = nI a → wX_search_47 post n' (nI 0) (nI k') 3 2 fl (nI (wc_one (wc_al a4 0 a) (wc_mi m a4 t) q).1) ab (nI (wc_one (wc_al a4 0 a) (wc_mi m a4 t) q).2) cg ylo yhi ylv yhv a1 a2 a3 a4 a5 (wc_ar p) a7' a8' a9' a10') :
    wX_search_47 post (n + 1) (nI 0) (nI k) 3 2 fl (nI q.1) ab (nI q.2) cg ylo yhi ylv yhv a1 a2 a3 a4 a5 (wc_ar p) a7 a8 a9 a10 := by
  have cl : (nI 0).toNatClampNeg = 0 := nI_clamp (by omega)
  have cl2 : (nI 1).toNatClampNeg = 1 := nI_clamp (by omega)
  have e9 : upd a9 0 (nI a) (nI 0).toNatClampNeg = nI a := by
    rw [cl]
    exact pk_us
  have ec : (((a4 (nI 0).toNatClampNeg) >>> ((upd a9 0 (nI a) (nI 0).toNatClampNeg) &&& 31)) &&& 1) = 1 ↔ wc_al a4 0 a = true := by
    rw [e9, cl]
    exact decide_eq_true_iff.symm
  have ci : (((18 * nI 0) + (3 * nI 0)) + (upd a9 0 (nI a) (nI 0).toNatClampNeg)) = nI a := by
    rw [e9, wc_18 0 0 a]
    exact congrArg nI (by omega)
  have h7a : a7 a = nI (s a) := by
    have z := h7 0 a (by omega) ha
    rw [show 3 * 0 + a = a by omega] at z
    exact z
  have hsa : s a ≤ 10000000 := by
    have z := hs 0 a (by omega) ha
    rw [show 3 * 0 + a = a by omega] at z
    exact z
  have e3 : a8 (nI 0).toNatClampNeg + a7 (((18 * nI 0) + (3 * nI 0)) + (upd a9 0 (nI a) (nI 0).toNatClampNeg)).toNatClampNeg = nI (f + s a) := by
    rw [pk_cl _ ci, cl, h8, h7a, nI_add]
  refine pk_le 4000 k (fun z => absurd z (by omega)) (fun _ => ⟨pk_in 0 7 (by omega), pk_in 0 7 (by omega), nm_r (e' := upd a9 0 (nI a)) (by rw [cl, h9]) ⟨pk_in 0 7 (by omega), pk_eq a 2 (fun z => absurd z (by omega)) (fun _ => ⟨pk_in 0 6 (by omega), pk_in 0 7 (by omega), ek_if ec (fun d => ⟨pk_in 0 7 (by omega), pk_in 0 7 (by omega), pk_in a 126 (by omega) ci, nm_r e3 (br_f (by decide) (wc_rem0 a (fun w b => s (3 * w + b)) ha (fun w b hw hb => Nat.le_trans (hs w b hw hb) (by decide)) (fun w b h0 hw hb => Nat.le_trans (hp0 w b h0 hw hb) (by decide)) pk_us h7 (fun m1 m2 b7 hm1 hm2 k1 k2 k3 k4 k5 => pk_le q.1 (f + s a + (m1 + m2)) (fun h => nm_r (nI_1 k) ?_) (fun h => nm_r (nI_1 0) ⟨pk_in 1 7 (by omega), nm_r (e' := upd a8 1 (nI (f + s a))) (by rw [show nI (0 + 1) = nI 1 from rfl, cl2]) ⟨pk_in 1 7 (by omega), nm_r (e' := upd (upd a9 0 (nI a)) 1 (-1)) (by rw [show nI (0 + 1) = nI 1 from rfl, cl2]) (nm_r (nI_1 k) ?_)⟩⟩) rfl (nI_add _ _))))⟩) (fun d => nm_r (nI_1 k) ?_)⟩) e9⟩⟩)
  · have e : wc_one (wc_al a4 0 a) (wc_mi m a4 t) q = q := by
      rw [wc_one_t d]
      refine wc_mi_skip (fun b c hb hc hal1 hal2 => ?_)
      have z1 : m1 ≤ min (s (3 + b) + p (9 + 3 * a + b)) 3000000 := k1 b hb hal1
      have z2 : m2 ≤ min (s (6 + c) + p (18 + 3 * a + c)) 3000000 := k2 c hc hal2
      have z3 := ht b c hb hc
      omega
    rw [e] at H
    exact H n (k + 1) b7 a8 _ a10 rfl (by omega) k3 rfl pk_us
  · rw [wc_one_t d] at H
    refine wc_full1 m q n (k + 1) (f + s a) (fun b => min (s (3 + b) + p (9 + 3 * a + b)) 3000000) (fun c => min (s (6 + c) + p (18 + 3 * a + c)) 3000000) t hn (by omega) hm hq (by omega) (fun b hb => by omega) (fun c hc => by omega) hp pk_us pk_us k4 k5 (fun b c hb hc => ?_) (fun n1 k1' c7 c8 c9 c10 x1 x2 x3 x4 x5 => ?_)
    · have z3 := ht b c hb hc
      omega
    · exact H n1 k1' c7 c8 c9 c10 (by omega) (by omega) (fun j hj => (x3 j hj).trans (k3 j hj)) (x4.trans (pk_un (by omega))) (x5.trans ((pk_un (by omega)).trans pk_us))
  · rw [wc_one_f d] at H
    exact H n (k + 1) a7 a8 _ a10 rfl (by omega) (fun _ _ => rfl) rfl pk_us
theorem wc_full0 {post : St2 → Prop} {T : Nat → Nat → Nat → Nat} {f : Nat} {s p : Nat → Nat} {fl ab cg ylo yhi ylv yhv : Int32} {a1 a2 a3 a4 a5 a7 a8 a9 a10 : Nat → Int32} (m : Bool) (q : Nat × Nat) (hT : wc_B T) (g : wc_G T f s p) (hm : wc_md m ab cg) (hq : q.1 ≤ 500000) (h9 : a9 0 = -1) (h8 : a8 0 = nI f) (h7 : ∀ j, j < 18 → a7 j = nI (s j))
    (H : ∀ a7' a8' a9' a10' : Nat → Int32, post (3, 2, fl, (nI (wc_top m a4 T q).1), ab, (nI (wc_top m a4 T q).2), cg, ylo, yhi, ylv, yhv, a1, a2, a3, a4, a5, (wc_ar p), a7', a8', a9', a10')) :
    ∃ n, wX_search_47 post n (nI 0) (nI 0) 3 2 fl (nI q.1) ab (nI q.2) cg ylo yhi ylv yhv a1 a2 a3 a4 a5 (wc_ar p) a7 a8 a9 a10 := by
  have hs : ∀ w b, w < 3 → b < 2 → s (3 * w + b) ≤ 10000000 := fun w b hw hb => wc_G_s hT g hw hb
  have hp0 : ∀ a, a < 2 → ∀ w b, 0 < w → w < 3 → b < 2 → p ((6 * 0 + w) * 9 + 3 * a + b) ≤ 10000000 := fun a ha w b h0 hw hb => wc_G_p hT g h0 hw ha hb
  have hp : ∀ b c, b < 2 → c < 2 → p (72 + 3 * b + c) ≤ 10000000 := fun b c hb hc => wc_G_p (u := 1) (v := 2) hT g (by omega) (by omega) hb hc
  have hf : f ≤ 10000000 := by
    have z1 := g 0 0 0 (by omega) (by omega) (by omega)
    have z2 := hT 0 0 0 (by omega) (by omega) (by omega)
    unfold wc_E at z1
    omega
  have ht : ∀ a, a < 2 → ∀ b c, b < 2 → c < 2 → f + s a + (s (3 + b) + p (9 + 3 * a + b)) + (s (6 + c) + p (18 + 3 * a + c)) + p (72 + 3 * b + c) = T a b c := by
    intro a ha b c hb hc
    have z := g a b c ha hb hc
    unfold wc_E at z
    omega
  refine ⟨100, wc_node0 m q 99 0 0 f (T 0) (by omega) (by omega) (by omega) hm hq hf hs (hp0 0 (by omega)) hp (by rw [h9]; decide) h8 (fun w b hw hb => h7 _ (by omega)) (ht 0 (by omega)) (fun n1 k1 b7 b8 b9 b10 x1 x2 x3 x4 x5 => ?_)⟩
  obtain ⟨n2, rfl⟩ : ∃ n2, n1 = n2 + 1 := ⟨n1 - 1, by omega⟩
  refine wc_node0 m _ n2 k1 1 f (T 1) (by omega) (by omega) (by omega) hm (Nat.le_trans (wc_one_le (fun _ => wc_mi_le _ _ _ _)) hq) hf hs (hp0 1 (by omega)) hp (by rw [x5]; exact nI_1 0) (x4.trans h8) (fun w b hw hb => (x3 _ (by omega)).trans (h7 _ (by omega))) (ht 1 (by omega)) (fun n3 k3 c7 c8 c9 c10 y1 y2 y3 y4 y5 => ?_)
  obtain ⟨n4, rfl⟩ : ∃ n4, n3 = n4 + 1 := ⟨n3 - 1, by omega⟩
  have cl : (nI 0).toNatClampNeg = 0 := nI_clamp (by omega)
  exact pk_le 4000 k3 (fun z => absurd z (by omega)) (fun _ => ⟨pk_in 0 7 (by omega), pk_in 0 7 (by omega), nm_r (e' := upd c9 0 (nI 2)) (by rw [cl, y5]; exact congrArg (upd c9 0) (nI_1 1)) ⟨pk_in 0 7 (by omega), br_t (by rw [cl]; exact pk_us) (nm_e (br_f (by decide) (H c7 c8 _ c10)))⟩⟩)
theorem wc_search {post : St2 → Prop} {T : Nat → Nat → Nat → Nat} {f : Nat} {s p : Nat → Nat} {ab cg ylo yhi ylv yhv : Int32} {a1 a2 a3 a4 a7 a8 a9 a10 : Nat → Int32} (m : Bool) (q : Nat × Nat) (hT : wc_B T) (g : wc_G T f s p) (hm : wc_md m ab cg) (hq : q.1 ≤ 500000)
    (H : ∀ a7' a8' a9' a10' : Nat → Int32, post (3, 2, (nI f), (nI (wc_top m a4 T q).1), ab, (nI (wc_top m a4 T q).2), cg, ylo, yhi, ylv, yhv, a1, a2, a3, a4, (wc_ar s), (wc_ar p), a7', a8', a9', a10')) :
    wpX_search post (3, 2, (nI f), (nI q.1), ab, (nI q.2), cg, ylo, yhi, ylv, yhv, a1, a2, a3, a4, (wc_ar s), (wc_ar p), a7, a8, a9, a10) :=
  pk_loop (fun n i b7 => wX_search_2 post 3 2 (nI f) (nI q.1) ab (nI q.2) cg ylo yhi ylv yhv n (nI i) a1 a2 a3 a4 (wc_ar s) (wc_ar p) b7 a8 a9 a10) (fun i b7 => ∀ j, j < i → b7 j = nI (s j)) 18 0 a7 (by omega) (fun j hj => absurd hj (by omega))
    (fun n b7 h => pk_le 18 18 (fun _ => nm_e (nm_e (wc_full0 m q hT g hm hq pk_us pk_us h H))) (fun z => absurd z (by omega)))
    (fun n i b7 hi h hw => pk_le 18 i (fun z => absurd z (by omega)) (fun _ => ⟨pk_in i 18 hi, pk_in i 126 (by omega), nm_e (nm_r (nI_1 i) (hw _ (wc_fill (f := fun j => nI (s j)) (nI_clamp (by omega)) h (by rw [nI_clamp (by omega)]; rfl))))⟩))
end
section
/-- the object between two calls: table B -/
def wc_K (B : Nat → Nat) (s : St2) : Prop := ∃ (fl ct ab cn cg ylo yhi ylv yhv : Int32) (a3 a4 a5 a6 a7 a8 a9 a10 : Nat → Int32), s = (3, 2, fl, ct, ab, cn, cg, ylo, yhi, ylv, yhv, (fun _ => 0), (wc_ar B), a3, a4, a5, a6, a7, a8, a9, a10) ∧ ∀ j, j < 3 → a3 j = 3
/-- .. and its masks -/
def wc_L (B : Nat → Nat) (a4 : Nat → Int32) (s : St2) : Prop := ∃ (fl ct ab cn cg ylo yhi ylv yhv : Int32) (a3 a5 a6 a7 a8 a9 a10 : Nat → Int32), s = (3, 2, fl, ct, ab, cn, cg, ylo, yhi, ylv, yhv, (fun _ => 0), (wc_ar B), a3, a4, a5, a6, a7, a8, a9, a10) ∧ ∀ j, j < 3 → a3 j = 3
theorem wc_mk {B : Nat → Nat} {fl ct ab cn cg ylo yhi ylv yhv : Int32} {a3 a4 a5 a6 a7 a8 a9 a10 : Nat → Int32} (h : ∀ j, j < 3 → a3 j = 3) : wc_K B (3, 2, fl, ct, ab, cn, cg, ylo, yhi, ylv, yhv, (fun _ => 0), (wc_ar B), a3, a4, a5, a6, a7, a8, a9, a10) := ⟨fl, ct, ab, cn, cg, ylo, yhi, ylv, yhv, a3, a4, a5, a6, a7, a8, a9, a10, rfl, h⟩
theorem wc_mkL {B : Nat → Nat} {fl ct ab cn cg ylo yhi ylv yhv : Int32} {a3 a4 a5 a6 a7 a8 a9 a10 : Nat → Int32} (h : ∀ j, j < 3 → a3 j = 3) : wc_L B a4 (3, 2, fl, ct, ab, cn, cg, ylo, yhi, ylv, yhv, (fun _ => 0), (wc_ar B), a3, a4, a5, a6, a7, a8, a9, a10) := ⟨fl, ct, ab, cn, cg, ylo, yhi, ylv, yhv, a3, a5, a6, a7, a8, a9, a10, rfl, h⟩
theorem wc_top_le (m : Bool) (a4 : Nat → Int32) (T : Nat → Nat → Nat → Nat) (q : Nat × Nat) : (wc_top m a4 T q).1 ≤ q.1 := wc_two_le (fun _ _ => wc_mi_le _ _ _ _)
theorem wc_least {post : Int32 → St2 → Prop} {B : Nat → Nat} {a4 : Nat → Int32} {s0 : St2} (hB : ∀ j, B j ≤ 99) (h : wc_L B a4 s0) (X : Nat) (hX : ∀ k, (wc_top false a4 (wc_T a4 B) (500000, k)).1 = X)
    (H0 : 500000 ≤ X → ∀ s, wc_L B a4 s → post (-1) s) (H1 : X < 500000 → ∀ s, wc_L B a4 s → post (nI X) s) : wpX_least post s0 (-1) := by
  obtain ⟨fl, ct, ab, cn, cg, ylo, yhi, ylv, yhv, a3, a5, a6, a7, a8, a9, a10, rfl, h3⟩ := h
  obtain ⟨k, rfl⟩ : ∃ k, cn = nI k := ⟨_, wc_nat cn⟩
  have hle : (wc_top false a4 (wc_T a4 B) (500000, k)).1 ≤ 500000 := wc_top_le false a4 (wc_T a4 B) (500000, k)
  rw [hX k] at hle
  refine wc_prepare (fl := fl) B hB (fun f s p g => wc_search false (500000, k) (wc_T_le a4 B hB) g (Or.inl ⟨rfl, rfl, rfl⟩) (Nat.le_refl _) (fun b7 b8 b9 b10 => ?_))
  rw [hX k]
  exact pk_le 500000 X (fun z => H0 z _ (wc_mkL h3)) (fun z => H1 z _ (wc_mkL h3)) rfl rfl (by omega) (by omega)
theorem wc_count {post : Int32 → St2 → Prop} {B : Nat → Nat} {a4 : Nat → Int32} {s0 : St2} (hB : ∀ j, B j ≤ 99) (h : wc_L B a4 s0) (bd c : Nat) (hbd : bd < 500000) (hc : (wc_top true a4 (wc_T a4 B) (bd + 1, 0)).2 = c)
    (H : ∀ s, wc_K B s → post (nI c) s) : wpX_count post s0 (nI bd) := by
  obtain ⟨fl, ct, ab, cn, cg, ylo, yhi, ylv, yhv, a3, a5, a6, a7, a8, a9, a10, rfl, h3⟩ := h
  refine wc_prepare (fl := fl) B hB (fun f s p g => nm_r (nI_1 bd) (wc_search true (bd + 1, 0) (wc_T_le a4 B hB) g (Or.inr ⟨rfl, rfl⟩) (by show bd + 1 ≤ 500000; omega) (fun b7 b8 b9 b10 => ?_)))
  rw [hc]
  exact H _ (wc_mk h3)
theorem wc_open {post : St2 → Prop} {fl ct ab cn cg ylo yhi ylv yhv : Int32} {a1 a2 a3 a4 a5 a6 a7 a8 a9 a10 : Nat → Int32} (h3 : ∀ j, j < 3 → a3 j = 3) (H : ∀ b4 : Nat → Int32, (∀ j, j < 3 → b4 j = 3) → post (3, 2, fl, ct, ab, cn, cg, ylo, yhi, ylv, yhv, a1, a2, a3, b4, a5, a6, a7, a8, a9, a10)) : wpX_openMasks post (3, 2, fl, ct, ab, cn, cg, ylo, yhi, ylv, yhv, a1, a2, a3, a4, a5, a6, a7, a8, a9, a10) :=
  pk_loop (fun n i s => wX_openMasks_2 post 3 2 fl ct ab cn cg ylo yhi ylv yhv n (nI i) a1 a2 a3 s a5 a6 a7 a8 a9 a10) (fun i s => ∀ j, j < i → s j = 3) 3 0 a4 (by omega) (fun j hj => absurd hj (by omega))
    (fun n s h => pk_le 3 3 (fun _ => H s h) (fun z => absurd z (by omega)))
    (fun n i s hi h hw => pk_le 3 i (fun z => absurd z (by omega)) (fun _ => ⟨pk_in i 6 (by omega), pk_in i 6 (by omega), nm_e (nm_r (nI_1 i) (hw _ (wc_fill (f := fun _ => 3) (nI_clamp (by omega)) h (by rw [nI_clamp (by omega)]; exact h3 i hi))))⟩))
theorem wc_al3 {a4 : Nat → Int32} (h : ∀ j, j < 3 → a4 j = 3) : ∀ v b, v < 3 → b < 2 → wc_al a4 v b = true := by
  intro v b hv hb
  unfold wc_al
  rw [h v hv]
  rcases wc_01 hb with rfl | rfl <;> decide
theorem wc_best {post : Int32 → St2 → Prop} {B : Nat → Nat} {s0 : St2} (hB : ∀ j, B j ≤ 99) (h : wc_K B s0) (h0 : ∀ a4 k, (∀ v b, v < 3 → b < 2 → wc_al a4 v b = true) → (wc_top false a4 (wc_T a4 B) (500000, k)).1 = 0)
    (H : ∀ s, wc_K B s → post 0 s) : wpX_best post s0 := by
  obtain ⟨fl, ct, ab, cn, cg, ylo, yhi, ylv, yhv, a3, a4, a5, a6, a7, a8, a9, a10, rfl, h3⟩ := h
  refine wc_open h3 (fun b4 h4 => ?_)
  refine wc_least hB (wc_mkL h3) 0 (fun k => h0 b4 k (wc_al3 h4)) (fun z => absurd z (by omega)) (fun _ s hs => ?_)
  obtain ⟨fl, ct, ab, cn, cg, ylo, yhi, ylv, yhv, a3, a5, a6, a7, a8, a9, a10, rfl, h3⟩ := hs
  exact H _ (wc_mk h3)
theorem wc_countUp {post : Int32 → St2 → Prop} {B : Nat → Nat} {s0 : St2} {c : Nat} (hB : ∀ j, B j ≤ 99) (h : wc_K B s0) (h0 : ∀ a4, (∀ v b, v < 3 → b < 2 → wc_al a4 v b = true) → (wc_top true a4 (wc_T a4 B) (1, 0)).2 = c)
    (H : ∀ s, wc_K B s → post (nI c) s) : wpX_countUpTo post s0 0 := by
  obtain ⟨fl, ct, ab, cn, cg, ylo, yhi, ylv, yhv, a3, a4, a5, a6, a7, a8, a9, a10, rfl, h3⟩ := h
  refine br_t (by decide) (wc_open h3 (fun b4 h4 => br_f (by decide) ?_))
  refine wc_count hB (wc_mkL h3) 0 c (by omega) (h0 b4 (wc_al3 h4)) (fun s hs => ?_)
  obtain ⟨fl, ct, ab, cn, cg, ylo, yhi, ylv, yhv, a3, a4, a5, a6, a7, a8, a9, a10, rfl, h3⟩ := hs
  exact H _ (wc_mk h3)
theorem wc_bestCount {post : Int32 → St2 → Prop} {B : Nat → Nat} {s0 : St2} {c : Nat} (hB : ∀ j, B j ≤ 99) (h : wc_K B s0) (h0 : ∀ a4 k, (∀ v b, v < 3 → b < 2 → wc_al a4 v b = true) → (wc_top false a4 (wc_T a4 B) (500000, k)).1 = 0) (h1 : ∀ a4, (∀ v b, v < 3 → b < 2 → wc_al a4 v b = true) → (wc_top true a4 (wc_T a4 B) (1, 0)).2 = c)
    (H : ∀ s, wc_K B s → post (nI c) s) : wpX_bestCount post s0 := by
  obtain ⟨fl, ct, ab, cn, cg, ylo, yhi, ylv, yhv, a3, a4, a5, a6, a7, a8, a9, a10, rfl, h3⟩ := h
  refine wc_open h3 (fun b4 h4 => ?_)
  refine wc_least hB (wc_mkL h3) 0 (fun k => h0 b4 k (wc_al3 h4)) (fun z => absurd z (by omega)) (fun _ s hs => ?_)
  obtain ⟨fl, ct, ab, cn, cg, ylo, yhi, ylv, yhv, a3, a5, a6, a7, a8, a9, a10, rfl, h3⟩ := hs
  refine br_t (by decide) (wc_count hB (wc_mkL h3) 0 c (by omega) (h1 b4 (wc_al3 h4)) (fun s hs => ?_))
  obtain ⟨fl, ct, ab, cn, cg, ylo, yhi, ylv, yhv, a3, a4, a5, a6, a7, a8, a9, a10, rfl, h3⟩ := hs
  exact H _ (wc_mk h3)
/-- pairs and values -/
def wc_lo (pr : Nat) : Nat := min (pr / 3) (pr % 3)
def wc_hi (pr : Nat) : Nat := max (pr / 3) (pr % 3)
def wc_lv (pr val : Nat) : Nat := if pr / 3 < pr % 3 then val / 2 else val % 2
def wc_hv (pr val : Nat) : Nat := if pr / 3 < pr % 3 then val % 2 else val / 2
def wc_ix (pr val : Nat) : Nat := (6 * wc_lo pr + wc_hi pr) * 9 + 3 * wc_lv pr val + wc_hv pr val
theorem wc_ixs : ∀ pr, pr < 9 → pr / 3 ≠ pr % 3 → ∀ val, val < 4 → wc_lo pr < wc_hi pr ∧ wc_hi pr < 3 ∧ wc_lv pr val < 2 ∧ wc_hv pr val < 2 ∧ wc_ix pr val < 324 := by decide
theorem wc_nlt {x : Int32} {n m : Nat} (h : nI n ≤ x) (hm : m ≤ n) (hn : n < 2 ^ 31) : ¬ x < nI m := by
  rw [Int32.le_iff_toInt_le, nI_toInt hn] at h
  rw [Int32.lt_iff_toInt_lt, nI_toInt (by omega)]
  omega
/-- a pair that the class refuses -/
def wc_bp (x : Int32) : Prop := x < 0 ∨ nI 9 ≤ x ∨ ∃ pr, pr < 9 ∧ pr / 3 = pr % 3 ∧ x = nI pr
def wc_bv (x : Int32) : Prop := x < 0 ∨ nI 4 ≤ x
theorem wc_tpA {post : Int32 → St2 → Prop} {fl ct ab cn cg ylo yhi ylv yhv : Int32} {a1 a2 a3 a4 a5 a6 a7 a8 a9 a10 : Nat → Int32} (pr : Nat) (hpr : pr < 9) (hne : pr / 3 ≠ pr % 3) (H : post 1 (3, 2, fl, ct, ab, cn, cg, (nI (wc_lo pr)), (nI (wc_hi pr)), ylv, yhv, a1, a2, a3, a4, a5, a6, a7, a8, a9, a10)) : wpX_takePair post (3, 2, fl, ct, ab, cn, cg, ylo, yhi, ylv, yhv, a1, a2, a3, a4, a5, a6, a7, a8, a9, a10) (nI pr) := by
  have ed : nI pr / 3 = nI (pr / 3) := pk_div (d := 3) (by omega) (by omega) (by omega)
  have er : nI pr - nI pr / 3 * 3 = nI (pr % 3) := pk_rem (d := 3) (by omega) (by omega) (by omega)
  unfold wc_lo wc_hi at H
  refine br_f (nI_pos (by omega)) (pk_lt pr 9 (fun _ => ⟨by decide, nm_r ed ⟨by decide, nm_r er (pk_le (pr % 3) (pr / 3) (fun h => ?_) (fun h => ?_))⟩⟩) (fun z => absurd z (by omega)) rfl (by decide))
  · rw [Nat.min_eq_right h, Nat.max_eq_left h] at H
    exact pk_le (pr % 3) (pr / 3) (fun _ => pk_eq (pr / 3) (pr % 3) (fun z => absurd z hne) (fun _ => H)) (fun z => absurd z (by omega))
  · rw [Nat.min_eq_left (Nat.le_of_lt h), Nat.max_eq_right (Nat.le_of_lt h)] at H
    exact pk_le (pr % 3) (pr / 3) (fun z => absurd z (by omega)) (fun _ => pk_eq (pr / 3) (pr % 3) (fun z => absurd z hne) (fun _ => H))
theorem wc_tpB {post : Int32 → St2 → Prop} {fl ct ab cn cg ylo yhi ylv yhv : Int32} {a1 a2 a3 a4 a5 a6 a7 a8 a9 a10 : Nat → Int32} {x : Int32} (hx : wc_bp x) (H : ∀ lo' hi' : Int32, post 0 (3, 2, fl, ct, ab, cn, cg, lo', hi', ylv, yhv, a1, a2, a3, a4, a5, a6, a7, a8, a9, a10)) : wpX_takePair post (3, 2, fl, ct, ab, cn, cg, ylo, yhi, ylv, yhv, a1, a2, a3, a4, a5, a6, a7, a8, a9, a10) x := by
  rcases hx with h | h | ⟨pr, hpr, heq, rfl⟩
  · exact br_t h (H ylo yhi)
  · exact br_f (wc_nlt (m := 0) h (by omega) (by omega)) (br_f (wc_nlt (m := 9) h (by omega) (by omega)) (H ylo yhi))
  · have ed : nI pr / 3 = nI (pr / 3) := pk_div (d := 3) (by omega) (by omega) (by omega)
    have er : nI pr - nI pr / 3 * 3 = nI (pr % 3) := pk_rem (d := 3) (by omega) (by omega) (by omega)
    exact br_f (nI_pos (by omega)) (pk_lt pr 9 (fun _ => ⟨by decide, nm_r ed ⟨by decide, nm_r er (pk_le (pr % 3) (pr / 3) (fun h => pk_le (pr % 3) (pr / 3) (fun _ => pk_eq (pr / 3) (pr % 3) (fun _ => H _ _) (fun z => absurd heq z)) (fun z => absurd z (by omega))) (fun h => absurd h (by omega)))⟩⟩) (fun z => absurd z (by omega)) rfl (by decide))
theorem wc_tvA {post : Int32 → St2 → Prop} {fl ct ab cn cg ylo yhi ylv yhv : Int32} {a1 a2 a3 a4 a5 a6 a7 a8 a9 a10 : Nat → Int32} (pr val : Nat) (hpr : pr < 9) (hval : val < 4) (H : post 1 (3, 2, fl, ct, ab, cn, cg, ylo, yhi, (nI (wc_lv pr val)), (nI (wc_hv pr val)), a1, a2, a3, a4, a5, a6, a7, a8, a9, a10)) : wpX_takeValues post (3, 2, fl, ct, ab, cn, cg, ylo, yhi, ylv, yhv, a1, a2, a3, a4, a5, a6, a7, a8, a9, a10) (nI pr) (nI val) := by
  have ed : nI pr / 3 = nI (pr / 3) := pk_div (d := 3) (by omega) (by omega) (by omega)
  have er : nI pr - nI pr / 3 * 3 = nI (pr % 3) := pk_rem (d := 3) (by omega) (by omega) (by omega)
  have vd : nI val / 2 = nI (val / 2) := pk_div (d := 2) (by omega) (by omega) (by omega)
  have vr : nI val - nI val / 2 * 2 = nI (val % 2) := pk_rem (d := 2) (by omega) (by omega) (by omega)
  unfold wc_lv wc_hv at H
  refine br_f (nI_pos (by omega)) (pk_lt val 4 (fun _ => ⟨by decide, by decide, pk_le (pr % 3) (pr / 3) (fun h => ?_) (fun h => ?_) er ed⟩) (fun z => absurd z (by omega)) rfl (by decide))
  · rw [if_neg (by omega), if_neg (by omega), ← vr] at H
    exact br_t rfl ⟨by decide, br_t rfl ⟨by decide, nm_r vd H⟩⟩
  · rw [if_pos (by omega), if_pos (by omega), ← vd] at H
    exact br_f (by decide) ⟨by decide, br_f (by decide) ⟨by decide, nm_r vr H⟩⟩
theorem wc_tvB {post : Int32 → St2 → Prop} {fl ct ab cn cg ylo yhi ylv yhv : Int32} {a1 a2 a3 a4 a5 a6 a7 a8 a9 a10 : Nat → Int32} {p x : Int32} (hx : wc_bv x) (H : post 0 (3, 2, fl, ct, ab, cn, cg, ylo, yhi, ylv, yhv, a1, a2, a3, a4, a5, a6, a7, a8, a9, a10)) : wpX_takeValues post (3, 2, fl, ct, ab, cn, cg, ylo, yhi, ylv, yhv, a1, a2, a3, a4, a5, a6, a7, a8, a9, a10) p x := by
  rcases hx with h | h
  · exact br_t h H
  · exact br_f (wc_nlt (m := 0) h (by omega) (by omega)) (br_f (wc_nlt (m := 4) h (by omega) (by omega)) H)
theorem wc_icA {post : Int32 → Prop} {c : Nat} (hc : c ≤ 40 ∨ c = 99) (H : post 1) : wpX_isCost post () (nI c) := by
  refine br_f (nI_pos (by omega)) (pk_le c 40 (fun _ => H) (fun z => ?_))
  obtain rfl : c = 99 := by omega
  exact br_t rfl H
theorem wc_icB {post : Int32 → Prop} {x : Int32} (h : ¬ (¬ x < 0 ∧ x ≤ 40)) (h9 : ¬ x = 99) (H : post 0) : wpX_isCost post () x :=
  br_c (fun _ => br_f h9 H) (fun z => br_f (fun w => h ⟨z, w⟩) (br_f h9 H))
theorem wc_binA {post : Int32 → St2 → Prop} {B : Nat → Nat} {s0 : St2} (h : wc_K B s0) (pr val c : Nat) (hpr : pr < 9) (hne : pr / 3 ≠ pr % 3) (hval : val < 4) (hc : c ≤ 40 ∨ c = 99)
    (H : ∀ s, wc_K (wc_un B (wc_ix pr val) c) s → post (nI (B (wc_ix pr val))) s) : wpX_binary post s0 (nI pr) (nI val) (nI c) := by
  obtain ⟨fl, ct, ab, cn, cg, ylo, yhi, ylv, yhv, a3, a4, a5, a6, a7, a8, a9, a10, rfl, h3⟩ := h
  have hix := (wc_ixs pr hpr hne val hval).2.2.2.2
  have e := wc_cell (wc_lo pr) (wc_hi pr) (wc_lv pr val) (wc_hv pr val)
  unfold wpX_binary
  refine wc_tpA pr hpr hne ?_
  refine br_f (by decide) ?_
  refine wc_tvA pr val hpr hval ?_
  refine br_f (by decide) ?_
  refine wc_icA hc ?_
  refine br_f (by decide) ?_
  exact And.intro (pk_in (wc_ix pr val) 324 hix e) (nm_r (wc_get (wc_ix pr val) (pk_cl (wc_ix pr val) e)) ⟨pk_in (wc_ix pr val) 324 hix e, nm_r (wc_set (wc_ix pr val) c (pk_cl (wc_ix pr val) e) rfl) (H _ (wc_mk h3))⟩)
theorem wc_binB {post : Int32 → St2 → Prop} {B : Nat → Nat} {s0 : St2} {x y z : Int32} (h : wc_K B s0) (hx : wc_bp x) (H : ∀ s, wc_K B s → post (-1) s) : wpX_binary post s0 x y z := by
  obtain ⟨fl, ct, ab, cn, cg, ylo, yhi, ylv, yhv, a3, a4, a5, a6, a7, a8, a9, a10, rfl, h3⟩ := h
  unfold wpX_binary
  refine wc_tpB hx (fun lo' hi' => ?_)
  exact br_t rfl (H _ (wc_mk h3))
theorem wc_binC {post : Int32 → St2 → Prop} {B : Nat → Nat} {s0 : St2} {y z : Int32} (h : wc_K B s0) (pr : Nat) (hpr : pr < 9) (hne : pr / 3 ≠ pr % 3) (hy : wc_bv y) (H : ∀ s, wc_K B s → post (-2) s) : wpX_binary post s0 (nI pr) y z := by
  obtain ⟨fl, ct, ab, cn, cg, ylo, yhi, ylv, yhv, a3, a4, a5, a6, a7, a8, a9, a10, rfl, h3⟩ := h
  unfold wpX_binary
  refine wc_tpA pr hpr hne ?_
  refine br_f (by decide) ?_
  refine wc_tvB hy ?_
  exact br_t rfl (H _ (wc_mk h3))
theorem wc_binD {post : Int32 → St2 → Prop} {B : Nat → Nat} {s0 : St2} {z : Int32} (h : wc_K B s0) (pr val : Nat) (hpr : pr < 9) (hne : pr / 3 ≠ pr % 3) (hval : val < 4) (hz : ¬ (¬ z < 0 ∧ z ≤ 40)) (hz9 : ¬ z = 99) (H : ∀ s, wc_K B s → post (-3) s) : wpX_binary post s0 (nI pr) (nI val) z := by
  obtain ⟨fl, ct, ab, cn, cg, ylo, yhi, ylv, yhv, a3, a4, a5, a6, a7, a8, a9, a10, rfl, h3⟩ := h
  unfold wpX_binary
  refine wc_tpA pr hpr hne ?_
  refine br_f (by decide) ?_
  refine wc_tvA pr val hpr hval ?_
  refine br_f (by decide) ?_
  refine wc_icB hz hz9 ?_
  exact br_t rfl (H _ (wc_mk h3))
theorem wc_bcA {post : Int32 → St2 → Prop} {B : Nat → Nat} {s0 : St2} (h : wc_K B s0) (pr val : Nat) (hpr : pr < 9) (hne : pr / 3 ≠ pr % 3) (hval : val < 4)
    (H : ∀ s, wc_K B s → post (nI (B (wc_ix pr val))) s) : wpX_binaryCost post s0 (nI pr) (nI val) := by
  obtain ⟨fl, ct, ab, cn, cg, ylo, yhi, ylv, yhv, a3, a4, a5, a6, a7, a8, a9, a10, rfl, h3⟩ := h
  have hix := (wc_ixs pr hpr hne val hval).2.2.2.2
  have e := wc_cell (wc_lo pr) (wc_hi pr) (wc_lv pr val) (wc_hv pr val)
  unfold wpX_binaryCost
  refine wc_tpA pr hpr hne ?_
  refine br_f (by decide) ?_
  refine wc_tvA pr val hpr hval ?_
  refine br_f (by decide) ?_
  refine And.intro (pk_in (wc_ix pr val) 324 hix e) ?_
  rw [wc_get (wc_ix pr val) (pk_cl (wc_ix pr val) e)]
  exact H _ (wc_mk h3)
theorem wc_bcB {post : Int32 → St2 → Prop} {B : Nat → Nat} {s0 : St2} {x y : Int32} (h : wc_K B s0) (hx : wc_bp x) (H : ∀ s, wc_K B s → post (-1) s) : wpX_binaryCost post s0 x y := by
  obtain ⟨fl, ct, ab, cn, cg, ylo, yhi, ylv, yhv, a3, a4, a5, a6, a7, a8, a9, a10, rfl, h3⟩ := h
  unfold wpX_binaryCost
  refine wc_tpB hx (fun lo' hi' => ?_)
  exact br_t rfl (H _ (wc_mk h3))
theorem wc_bcC {post : Int32 → St2 → Prop} {B : Nat → Nat} {s0 : St2} {y : Int32} (h : wc_K B s0) (pr : Nat) (hpr : pr < 9) (hne : pr / 3 ≠ pr % 3) (hy : wc_bv y) (H : ∀ s, wc_K B s → post (-1) s) : wpX_binaryCost post s0 (nI pr) y := by
  obtain ⟨fl, ct, ab, cn, cg, ylo, yhi, ylv, yhv, a3, a4, a5, a6, a7, a8, a9, a10, rfl, h3⟩ := h
  unfold wpX_binaryCost
  refine wc_tpA pr hpr hne ?_
  refine br_f (by decide) ?_
  refine wc_tvB hy ?_
  exact br_t rfl (H _ (wc_mk h3))
/-- the masks of bestWithPair -/
def wc_am (lo hi l h : Nat) (a4 : Nat → Int32) : Prop := ∀ v b, v < 3 → b < 2 → wc_al a4 v b = decide ((v = lo → b = l) ∧ (v = hi → b = h))
theorem wc_amM {b4 : Nat → Int32} (h4 : ∀ j, j < 3 → b4 j = 3) {lo hi l h : Nat} (hne : lo ≠ hi) (hl : l < 2) (hh : h < 2) : wc_am lo hi l h (upd (upd b4 lo (3 &&& ((1 : Int32) <<< (nI l &&& 31)))) hi (3 &&& ((1 : Int32) <<< (nI h &&& 31)))) := by
  intro v b hv hb
  have one : ∀ x, x < 2 → ∀ y, y < 2 → decide ((((3 &&& ((1 : Int32) <<< (nI x &&& 31))) >>> (nI y &&& 31)) &&& 1) = 1) = decide (y = x) := by decide
  unfold wc_al
  by_cases e1 : v = hi
  · subst e1
    rw [pk_us, one h hh b hb]
    simp [Ne.symm hne]
  · rw [pk_un e1]
    by_cases e2 : v = lo
    · subst e2
      rw [pk_us, one l hl b hb]
      simp [e1]
    · rw [pk_un e2, h4 v hv]
      rcases wc_01 hb with rfl | rfl <;> simp [e1, e2] <;> decide
theorem wc_bwA {post : Int32 → St2 → Prop} {B : Nat → Nat} {s0 : St2} (hB : ∀ j, B j ≤ 99) (h : wc_K B s0) (pr val X : Nat) (hpr : pr < 9) (hne : pr / 3 ≠ pr % 3) (hval : val < 4) (hX : ∀ a4 k, wc_am (wc_lo pr) (wc_hi pr) (wc_lv pr val) (wc_hv pr val) a4 → (wc_top false a4 (wc_T a4 B) (500000, k)).1 = X)
    (H0 : 500000 ≤ X → ∀ s, wc_K B s → post (-3) s) (H1 : X < 500000 → ∀ s, wc_K B s → post (nI X) s) : wpX_bestWithPair post s0 (nI pr) (nI val) := by
  obtain ⟨fl, ct, ab, cn, cg, ylo, yhi, ylv, yhv, a3, a4, a5, a6, a7, a8, a9, a10, rfl, h3⟩ := h
  obtain ⟨q1, q2, q3, q4, _⟩ := wc_ixs pr hpr hne val hval
  have cl : (nI (wc_lo pr)).toNatClampNeg = wc_lo pr := nI_clamp (by omega)
  have ch : (nI (wc_hi pr)).toNatClampNeg = wc_hi pr := nI_clamp (by omega)
  unfold wpX_bestWithPair
  refine wc_tpA pr hpr hne ?_
  refine br_f (by decide) ?_
  refine wc_tvA pr val hpr hval ?_
  refine br_f (by decide) ?_
  refine wc_open h3 (fun b4 h4 => ?_)
  refine ⟨pk_in (wc_lo pr) 6 (by omega), pk_in (wc_lo pr) 6 (by omega), nm_r (e' := upd b4 (wc_lo pr) (3 &&& ((1 : Int32) <<< (nI (wc_lv pr val) &&& 31)))) (by rw [cl, h4 _ (by omega)]) ⟨pk_in (wc_hi pr) 6 (by omega), pk_in (wc_hi pr) 6 (by omega), nm_r (e' := upd (upd b4 (wc_lo pr) (3 &&& ((1 : Int32) <<< (nI (wc_lv pr val) &&& 31)))) (wc_hi pr) (3 &&& ((1 : Int32) <<< (nI (wc_hv pr val) &&& 31)))) (by rw [ch, pk_un (by omega), h4 _ (by omega)]) (wc_least hB (wc_mkL h3) X (fun k => hX _ k (wc_amM h4 (by omega) q3 q4)) (fun z s hs => ?_) (fun z s hs => ?_))⟩⟩
  · obtain ⟨fl, ct, ab, cn, cg, ylo, yhi, ylv, yhv, a3, a5, a6, a7, a8, a9, a10, rfl, h3⟩ := hs
    exact br_f (by decide) (H0 z _ (wc_mk h3))
  · obtain ⟨fl, ct, ab, cn, cg, ylo, yhi, ylv, yhv, a3, a5, a6, a7, a8, a9, a10, rfl, h3⟩ := hs
    exact br_t (nI_pos' (by omega)) (H1 z _ (wc_mk h3))
theorem wc_bwB {post : Int32 → St2 → Prop} {B : Nat → Nat} {s0 : St2} {x y : Int32} (h : wc_K B s0) (hx : wc_bp x) (H : ∀ s, wc_K B s → post (-1) s) : wpX_bestWithPair post s0 x y := by
  obtain ⟨fl, ct, ab, cn, cg, ylo, yhi, ylv, yhv, a3, a4, a5, a6, a7, a8, a9, a10, rfl, h3⟩ := h
  unfold wpX_bestWithPair
  refine wc_tpB hx (fun lo' hi' => ?_)
  exact br_t rfl (H _ (wc_mk h3))
theorem wc_bwC {post : Int32 → St2 → Prop} {B : Nat → Nat} {s0 : St2} {y : Int32} (h : wc_K B s0) (pr : Nat) (hpr : pr < 9) (hne : pr / 3 ≠ pr % 3) (hy : wc_bv y) (H : ∀ s, wc_K B s → post (-2) s) : wpX_bestWithPair post s0 (nI pr) y := by
  obtain ⟨fl, ct, ab, cn, cg, ylo, yhi, ylv, yhv, a3, a4, a5, a6, a7, a8, a9, a10, rfl, h3⟩ := h
  unfold wpX_bestWithPair
  refine wc_tpA pr hpr hne ?_
  refine br_f (by decide) ?_
  refine wc_tvB hy ?_
  exact br_t rfl (H _ (wc_mk h3))
end
section
/-- what relate writes -/
def wc_t (kd a b : Nat) : Nat := if kd = 1 then (if a = b then 1 else 0) else if kd = 2 then a * b else (if b ≤ a then a - b else b - a)
def wc_rel (B : Nat → Nat) (c0 kd w i : Nat) : Nat → Nat := fun j => if c0 ≤ j ∧ j < c0 + i then w * wc_t kd ((j - c0) / 3) ((j - c0) % 3) else B j
theorem wc_t_1e (a : Nat) : wc_t 1 a a = 1 := by simp [wc_t]
theorem wc_t_1n {a b : Nat} (h : a ≠ b) : wc_t 1 a b = 0 := by simp [wc_t, h]
theorem wc_t_0l {a b : Nat} (h : b ≤ a) : wc_t 0 a b = a - b := by simp [wc_t, h]
theorem wc_t_0r {a b : Nat} (h : a < b) : wc_t 0 a b = b - a := by
  have g : ¬ b ≤ a := by omega
  simp [wc_t, g]
theorem wc_rel_0 (B : Nat → Nat) (c0 kd w : Nat) : wc_rel B c0 kd w 0 = B := funext fun j => if_neg (by omega)
theorem wc_rel_s (B : Nat → Nat) (c0 kd w i : Nat) : wc_un (wc_rel B c0 kd w i) (c0 + i) (w * wc_t kd (i / 3) (i % 3)) = wc_rel B c0 kd w (i + 1) := by
  funext j
  unfold wc_un wc_rel
  by_cases e : j = c0 + i
  · rw [if_pos e, if_pos (by omega), show j - c0 = i by omega]
  · rw [if_neg e]
    by_cases g : c0 ≤ j ∧ j < c0 + i
    · rw [if_pos g, if_pos (by omega)]
    · rw [if_neg g, if_neg (by omega)]
theorem wc_re113 {post : Int32 → St2 → Prop} {J : Int32 → (Nat → Int32) → (Nat → Int32) → (Nat → Int32) → (Nat → Int32) → (Nat → Int32) → (Nat → Int32) → (Nat → Int32) → (Nat → Int32) → (Nat → Int32) → (Nat → Int32) → Prop} {x2 x7 : Int32} {fl ct ab cn cg ylv yhv : Int32} {a1 a3 a4 a5 a6 a7 a8 a9 a10 : Nat → Int32} {B : Nat → Nat} (lo hi k a b w t : Nat) (hl : lo < 3) (hh : hi < 3) (ha : a < 3) (hb : b < 3) (h7 : x7 = nI t) (H : J (nI (k + 1)) a1 (wc_ar (wc_un B ((6 * lo + hi) * 9 + 3 * a + b) (w * t))) a3 a4 a5 a6 a7 a8 a9 a10) :
    wX_relate_113 post J x2 (nI w) (nI k) (nI a) (nI b) x7 3 2 fl ct ab cn cg (nI lo) (nI hi) ylv yhv a1 (wc_ar B) a3 a4 a5 a6 a7 a8 a9 a10 := by
  have e := wc_cell lo hi a b
  exact And.intro (pk_in _ 324 (by omega) e) (nm_r (wc_set _ (w * t) (pk_cl _ e) (by rw [h7]; exact pk_mul w t)) (nm_r (nI_1 k) H))
theorem wc_re77 {post : Int32 → St2 → Prop} {J : Int32 → (Nat → Int32) → (Nat → Int32) → (Nat → Int32) → (Nat → Int32) → (Nat → Int32) → (Nat → Int32) → (Nat → Int32) → (Nat → Int32) → (Nat → Int32) → (Nat → Int32) → Prop} {z : Int32} {fl ct ab cn cg ylv yhv : Int32} {a1 a3 a4 a5 a6 a7 a8 a9 a10 : Nat → Int32} {B : Nat → Nat} (lo hi k a b w kd : Nat) (hl : lo < 3) (hh : hi < 3) (ha : a < 3) (hb : b < 3) (hk : kd ≤ 2) (hz : z = nI (wc_t 0 a b)) (H : J (nI (k + 1)) a1 (wc_ar (wc_un B ((6 * lo + hi) * 9 + 3 * a + b) (w * wc_t kd a b))) a3 a4 a5 a6 a7 a8 a9 a10) :
    wX_relate_77 post J (nI kd) (nI w) (nI k) (nI a) (nI b) z 3 2 fl ct ab cn cg (nI lo) (nI hi) ylv yhv a1 (wc_ar B) a3 a4 a5 a6 a7 a8 a9 a10 := by
  refine pk_eq kd 1 (fun h1 => pk_eq a b (fun e => ?_) (fun e => ?_)) (fun h1 => pk_eq kd 2 (fun h2 => nm_r (pk_mul a b) ?_) (fun h2 => ?_))
  · subst h1 e
    unfold wX_relate_96
    exact wc_re113 lo hi k a a w 1 hl hh ha hb rfl (by rw [wc_t_1e] at H; exact H)
  · subst h1
    unfold wX_relate_96
    exact wc_re113 lo hi k a b w 0 hl hh ha hb rfl (by rw [wc_t_1n e] at H; exact H)
  · subst h2
    exact wc_re113 lo hi k a b w (a * b) hl hh ha hb rfl H
  · obtain rfl : kd = 0 := by omega
    exact wc_re113 lo hi k a b w _ hl hh ha hb hz H
theorem wc_re38 {post : Int32 → St2 → Prop} {fl ct ab cn cg ylv yhv : Int32} {a1 a3 a4 a5 a6 a7 a8 a9 a10 : Nat → Int32} {B : Nat → Nat} (lo hi w kd : Nat) (hl : lo < 3) (hh : hi < 3) (hk : kd ≤ 2) (H : post 0 (3, 2, fl, ct, ab, cn, cg, (nI lo), (nI hi), ylv, yhv, a1, (wc_ar (wc_rel B ((6 * lo + hi) * 9) kd w 9)), a3, a4, a5, a6, a7, a8, a9, a10)) :
    ∃ n, wX_relate_38 post (nI kd) (nI w) 3 2 fl ct ab cn cg (nI lo) (nI hi) ylv yhv n 0 a1 (wc_ar B) a3 a4 a5 a6 a7 a8 a9 a10 := by
  refine pk_loop (fun n i s => wX_relate_38 post (nI kd) (nI w) 3 2 fl ct ab cn cg (nI lo) (nI hi) ylv yhv n (nI i) a1 s a3 a4 a5 a6 a7 a8 a9 a10) (fun i s => s = wc_ar (wc_rel B ((6 * lo + hi) * 9) kd w i)) 9 0 (wc_ar B) (by omega) (by rw [wc_rel_0])
    (fun n s h => pk_le 9 9 (fun _ => by rw [h]; exact H) (fun z => absurd z (by omega))) ?_
  intro n i s hi' h hw
  subst h
  have ed : nI i / 3 = nI (i / 3) := pk_div (d := 3) (by omega) (by omega) (by omega)
  have er : nI i - nI i / 3 * 3 = nI (i % 3) := pk_rem (d := 3) (by omega) (by omega) (by omega)
  have H' := hw _ rfl
  rw [← wc_rel_s, show (6 * lo + hi) * 9 + i = (6 * lo + hi) * 9 + 3 * (i / 3) + i % 3 by omega] at H'
  refine pk_le 9 i (fun z => absurd z (by omega)) (fun _ => ⟨by decide, nm_r ed ⟨by decide, nm_r er (pk_le (i % 3) (i / 3) (fun g => ?_) (fun g => ?_))⟩⟩)
  · exact wc_re77 lo hi i (i / 3) (i % 3) w kd hl hh (by omega) (by omega) hk (by rw [pk_sub g, wc_t_0l g]) H'
  · exact wc_re77 lo hi i (i / 3) (i % 3) w kd hl hh (by omega) (by omega) hk (by rw [pk_sub (Nat.le_of_lt g), wc_t_0r g]) H'
theorem wc_relA {post : Int32 → St2 → Prop} {B : Nat → Nat} {s0 : St2} (h : wc_K B s0) (pr kd w : Nat) (hpr : pr < 9) (hne : pr / 3 ≠ pr % 3) (hk : kd ≤ 2) (hw : w ≤ 10) (H : ∀ s, wc_K (wc_rel B ((6 * wc_lo pr + wc_hi pr) * 9) kd w 9) s → post 0 s) : wpX_relate post s0 (nI pr) (nI kd) (nI w) := by
  obtain ⟨fl, ct, ab, cn, cg, ylo, yhi, ylv, yhv, a3, a4, a5, a6, a7, a8, a9, a10, rfl, h3⟩ := h
  obtain ⟨q1, q2, _⟩ := wc_ixs pr hpr hne 0 (by omega)
  unfold wpX_relate
  refine wc_tpA pr hpr hne ?_
  refine br_f (by decide) ?_
  refine br_f (nI_pos (by omega)) ?_
  refine br_t (nI_le (b := 2) hk (by omega)) ?_
  refine br_f (nI_pos (by omega)) ?_
  refine br_t (nI_le (b := 10) hw (by omega)) ?_
  exact wc_re38 (wc_lo pr) (wc_hi pr) w kd (by omega) q2 hk (H _ (wc_mk h3))
theorem wc_relB {post : Int32 → St2 → Prop} {B : Nat → Nat} {s0 : St2} {x y z : Int32} (h : wc_K B s0) (hx : wc_bp x) (H : ∀ s, wc_K B s → post (-1) s) : wpX_relate post s0 x y z := by
  obtain ⟨fl, ct, ab, cn, cg, ylo, yhi, ylv, yhv, a3, a4, a5, a6, a7, a8, a9, a10, rfl, h3⟩ := h
  unfold wpX_relate
  refine wc_tpB hx (fun lo' hi' => ?_)
  exact br_t rfl (H _ (wc_mk h3))
theorem wc_relC {post : Int32 → St2 → Prop} {B : Nat → Nat} {s0 : St2} {y z : Int32} (h : wc_K B s0) (pr : Nat) (hpr : pr < 9) (hne : pr / 3 ≠ pr % 3) (hy : y < 0 ∨ ¬ y ≤ 2) (H : ∀ s, wc_K B s → post (-2) s) : wpX_relate post s0 (nI pr) y z := by
  obtain ⟨fl, ct, ab, cn, cg, ylo, yhi, ylv, yhv, a3, a4, a5, a6, a7, a8, a9, a10, rfl, h3⟩ := h
  unfold wpX_relate
  refine wc_tpA pr hpr hne ?_
  refine br_f (by decide) ?_
  exact br_c (fun _ => H _ (wc_mk h3)) (fun g => br_f (hy.resolve_left g) (H _ (wc_mk h3)))
theorem wc_relD {post : Int32 → St2 → Prop} {B : Nat → Nat} {s0 : St2} {y z : Int32} (h : wc_K B s0) (pr : Nat) (hpr : pr < 9) (hne : pr / 3 ≠ pr % 3) (hy0 : ¬ y < 0) (hy2 : y ≤ 2) (hz : z < 0 ∨ ¬ z ≤ 10) (H : ∀ s, wc_K B s → post (-3) s) : wpX_relate post s0 (nI pr) y z := by
  obtain ⟨fl, ct, ab, cn, cg, ylo, yhi, ylv, yhv, a3, a4, a5, a6, a7, a8, a9, a10, rfl, h3⟩ := h
  unfold wpX_relate
  refine wc_tpA pr hpr hne ?_
  refine br_f (by decide) ?_
  refine br_f hy0 ?_
  refine br_t hy2 ?_
  exact br_c (fun _ => H _ (wc_mk h3)) (fun g => br_f (hz.resolve_left g) (H _ (wc_mk h3)))
theorem wc_init {post : St2 → Prop} (mc ms : Nat) (hc : 10 ≤ mc) (hs : 842 ≤ ms) (H : ∀ s, wc_K (fun _ => 0) s → post s) : wpX_init post mc ms (0, 0, 0, 0, 0, 0, 0, 0, 0, 0, 0) 3 2 := by
  refine ⟨by omega, by omega, by omega, by omega, by omega, by omega, by omega, by omega, by omega, by omega, by omega, by omega, by omega, by omega, by omega, by omega, by omega, by omega, by omega, by omega, ?_⟩
  refine br_t (by decide) ?_
  refine br_t (by decide) ?_
  refine br_f (by decide) ?_
  exact pk_loop (fun n i s => wX_init_131 post mc ms 10 842 3 2 0 0 0 0 0 0 0 0 0 n (nI i) (fun _ => 0) (fun _ => 0) s (fun _ => 0) (fun _ => 0) (fun _ => 0) (fun _ => 0) (fun _ => 0) (fun _ => 0) (fun _ => 0)) (fun i s => ∀ j, j < i → s j = 3) 6 0 (fun _ => 0) (by omega) (fun j hj => absurd hj (by omega))
    (fun n s h => pk_le 6 6 (fun _ => H _ (wc_mk (fun j hj => h j (by omega)))) (fun z => absurd z (by omega)))
    (fun n i s hi h hw => pk_le 6 i (fun z => absurd z (by omega)) (fun _ => ⟨pk_in i 6 hi, nm_e (nm_r (nI_1 i) (hw _ (wc_fill (f := fun _ => 3) (nI_clamp (by omega)) h (by decide))))⟩))
end
section
/-- the plain law: what a search over a one-pair table answers -/
def wc_D (B : Nat → Nat) (a b c : Nat) : Nat := wc_q (B (9 + 3 * a + b)) + wc_q (B (18 + 3 * a + c)) + wc_q (B (72 + 3 * b + c))
theorem wc_q0 : wc_q 0 = 0 := rfl
theorem wc_TD {a4 : Nat → Int32} (B : Nat → Nat) {a b c : Nat} (h0 : wc_al a4 0 a = true) (h1 : wc_al a4 1 b = true) (h2 : wc_al a4 2 c = true) : wc_T a4 B a b c = wc_D B a b c := by
  unfold wc_T wc_D wc_w
  rw [if_pos h0, if_pos h1, if_pos h2]
  omega
theorem wc_st_f (x c n : Nat) : wc_st false x (c, n) = (min x c, n) := by
  unfold wc_st
  by_cases h : x < c
  · rw [if_pos h, Nat.min_eq_left (Nat.le_of_lt h)]
    rfl
  · rw [if_neg h, Nat.min_eq_right (by omega)]
theorem wc_st_t (x n : Nat) : wc_st true x (1, n) = (1, n + (1 - x)) := by
  unfold wc_st
  by_cases h : x < 1
  · rw [if_pos h, show 1 - x = 1 by omega]
    rfl
  · rw [if_neg h, show 1 - x = 0 by omega]
    rfl
theorem wc_top_all (m : Bool) {a4 : Nat → Int32} (B : Nat → Nat) (q : Nat × Nat) (hal : ∀ v b, v < 3 → b < 2 → wc_al a4 v b = true) :
    wc_top m a4 (wc_T a4 B) q = wc_st m (wc_D B 1 1 1) (wc_st m (wc_D B 1 1 0) (wc_st m (wc_D B 1 0 1) (wc_st m (wc_D B 1 0 0) (wc_st m (wc_D B 0 1 1) (wc_st m (wc_D B 0 1 0) (wc_st m (wc_D B 0 0 1) (wc_st m (wc_D B 0 0 0) q))))))) := by
  have h00 := hal 0 0 (by omega) (by omega)
  have h01 := hal 0 1 (by omega) (by omega)
  have h10 := hal 1 0 (by omega) (by omega)
  have h11 := hal 1 1 (by omega) (by omega)
  have h20 := hal 2 0 (by omega) (by omega)
  have h21 := hal 2 1 (by omega) (by omega)
  unfold wc_top wc_two wc_mi wc_two wc_lf wc_two
  simp only [wc_one_t h00, wc_one_t h01, wc_one_t h10, wc_one_t h11, wc_one_t h20, wc_one_t h21, wc_TD B h00 h10 h20, wc_TD B h00 h10 h21, wc_TD B h00 h11 h20, wc_TD B h00 h11 h21, wc_TD B h01 h10 h20, wc_TD B h01 h10 h21, wc_TD B h01 h11 h20, wc_TD B h01 h11 h21]
theorem wc_cnt8 {a4 : Nat → Int32} (B : Nat → Nat) (hal : ∀ v b, v < 3 → b < 2 → wc_al a4 v b = true) :
    (wc_top true a4 (wc_T a4 B) (1, 0)).2 = (1 - wc_D B 0 0 0) + (1 - wc_D B 0 0 1) + (1 - wc_D B 0 1 0) + (1 - wc_D B 0 1 1) + (1 - wc_D B 1 0 0) + (1 - wc_D B 1 0 1) + (1 - wc_D B 1 1 0) + (1 - wc_D B 1 1 1) := by
  rw [wc_top_all true B _ hal]
  simp only [wc_st_t, Nat.zero_add]
theorem wc_low8 {a4 : Nat → Int32} (B : Nat → Nat) (k : Nat) (hal : ∀ v b, v < 3 → b < 2 → wc_al a4 v b = true) (h : wc_D B 0 0 0 = 0 ∨ wc_D B 0 0 1 = 0 ∨ wc_D B 0 1 0 = 0 ∨ wc_D B 0 1 1 = 0 ∨ wc_D B 1 0 0 = 0 ∨ wc_D B 1 0 1 = 0 ∨ wc_D B 1 1 0 = 0 ∨ wc_D B 1 1 1 = 0) :
    (wc_top false a4 (wc_T a4 B) (500000, k)).1 = 0 := by
  rw [wc_top_all false B _ hal]
  simp only [wc_st_f]
  omega
/-- the table after binary: one cell -/
theorem wc_q_pos {h : Nat} (hh : h ≠ 0) : 1 - wc_q h = 0 := by
  unfold wc_q
  split <;> omega
theorem wc_P1c {a4 : Nat → Int32} {lo hi l r : Nat} (h : Nat) (h1 : lo < hi) (h2 : hi < 3) (hl : l < 2) (hr : r < 2) (hal : ∀ v b, v < 3 → b < 2 → wc_al a4 v b = true) :
    (wc_top true a4 (wc_T a4 (wc_un (fun _ => 0) ((6 * lo + hi) * 9 + 3 * l + r) h)) (1, 0)).2 = if h = 0 then 8 else 6 := by
  rw [wc_cnt8 _ hal]
  by_cases e : h = 0
  · subst e
    rcases wc_uv h1 h2 with ⟨rfl, rfl⟩ | ⟨rfl, rfl⟩ | ⟨rfl, rfl⟩ <;> rcases wc_01 hl with rfl | rfl <;> rcases wc_01 hr with rfl | rfl <;> simp [wc_D, wc_un, wc_q0]
  · have z := wc_q_pos e
    rcases wc_uv h1 h2 with ⟨rfl, rfl⟩ | ⟨rfl, rfl⟩ | ⟨rfl, rfl⟩ <;> rcases wc_01 hl with rfl | rfl <;> rcases wc_01 hr with rfl | rfl <;> simp [wc_D, wc_un, wc_q0, z, e]
theorem wc_P1l {a4 : Nat → Int32} {lo hi l r : Nat} (h k : Nat) (h1 : lo < hi) (h2 : hi < 3) (hl : l < 2) (hr : r < 2) (hal : ∀ v b, v < 3 → b < 2 → wc_al a4 v b = true) :
    (wc_top false a4 (wc_T a4 (wc_un (fun _ => 0) ((6 * lo + hi) * 9 + 3 * l + r) h)) (500000, k)).1 = 0 := by
  refine wc_low8 _ k hal ?_
  rcases wc_uv h1 h2 with ⟨rfl, rfl⟩ | ⟨rfl, rfl⟩ | ⟨rfl, rfl⟩ <;> rcases wc_01 hl with rfl | rfl <;> rcases wc_01 hr with rfl | rfl <;> simp [wc_D, wc_un, wc_q0]
/-- bestWithPair -/
theorem wc_P2 {a4 : Nat → Int32} {lo hi l r : Nat} (h k : Nat) (h1 : lo < hi) (h2 : hi < 3) (hl : l < 2) (hr : r < 2) (ham : wc_am lo hi l r a4) :
    (wc_top false a4 (wc_T a4 (wc_un (fun _ => 0) ((6 * lo + hi) * 9 + 3 * l + r) h)) (500000, k)).1 = min (wc_q h) 500000 := by
  have h00 := ham 0 0 (by omega) (by omega)
  have h01 := ham 0 1 (by omega) (by omega)
  have h10 := ham 1 0 (by omega) (by omega)
  have h11 := ham 1 1 (by omega) (by omega)
  have h20 := ham 2 0 (by omega) (by omega)
  have h21 := ham 2 1 (by omega) (by omega)
  unfold wc_top wc_two wc_mi wc_two wc_lf wc_two wc_one
  rcases wc_uv h1 h2 with ⟨rfl, rfl⟩ | ⟨rfl, rfl⟩ | ⟨rfl, rfl⟩ <;> rcases wc_01 hl with rfl | rfl <;> rcases wc_01 hr with rfl | rfl <;> simp at h00 h01 h10 h11 h20 h21 <;> simp [h00, h01, h10, h11, h20, h21, wc_st_f, wc_T, wc_w, wc_un, wc_q0] <;> omega
/-- the table after relate -/
theorem wc_P3 {B : Nat → Nat} {lo hi kd w : Nat} (h1 : lo < hi) (h2 : hi < 3) (hk : kd ≤ 2) (hw : w ≤ 10) (hB : ∀ j, ¬ ((6 * lo + hi) * 9 ≤ j ∧ j < (6 * lo + hi) * 9 + 9) → B j = 0) (a b c : Nat) (ha : a < 2) (hb : b < 2) (hc : c < 2) :
    wc_D (wc_rel B ((6 * lo + hi) * 9) kd w 9) a b c = w * wc_t kd (if lo = 0 then a else b) (if hi = 1 then b else c) := by
  have q10 : ∀ x, x ≤ 40 → wc_q x = x := fun x hx => if_neg (by omega)
  have hk3 : kd = 0 ∨ kd = 1 ∨ kd = 2 := by omega
  have z9 := hB 9
  have z10 := hB 10
  have z12 := hB 12
  have z13 := hB 13
  have z18 := hB 18
  have z19 := hB 19
  have z21 := hB 21
  have z22 := hB 22
  have z72 := hB 72
  have z73 := hB 73
  have z75 := hB 75
  have z76 := hB 76
  clear hB
  rcases wc_uv h1 h2 with ⟨rfl, rfl⟩ | ⟨rfl, rfl⟩ | ⟨rfl, rfl⟩ <;> simp at z9 z10 z12 z13 z18 z19 z21 z22 z72 z73 z75 z76 <;> rcases hk3 with rfl | rfl | rfl <;> rcases wc_01 ha with rfl | rfl <;> rcases wc_01 hb with rfl | rfl <;> rcases wc_01 hc with rfl | rfl <;> simp [wc_D, wc_rel, wc_t, wc_q0, z9, z10, z12, z13, z18, z19, z21, z22, z72, z73, z75, z76, q10 w (by omega)]
theorem wc_P3c {a4 : Nat → Int32} {B : Nat → Nat} {lo hi kd w : Nat} (h1 : lo < hi) (h2 : hi < 3) (hk : kd ≤ 2) (hw : w ≤ 10) (hB : ∀ j, ¬ ((6 * lo + hi) * 9 ≤ j ∧ j < (6 * lo + hi) * 9 + 9) → B j = 0) (hal : ∀ v b, v < 3 → b < 2 → wc_al a4 v b = true) :
    (wc_top true a4 (wc_T a4 (wc_rel B ((6 * lo + hi) * 9) kd w 9)) (1, 0)).2 = if w = 0 then 8 else if kd = 2 then 6 else 4 := by
  have D := wc_P3 h1 h2 hk hw hB
  have hk3 : kd = 0 ∨ kd = 1 ∨ kd = 2 := by omega
  rw [wc_cnt8 _ hal, D 0 0 0 (by omega) (by omega) (by omega), D 0 0 1 (by omega) (by omega) (by omega), D 0 1 0 (by omega) (by omega) (by omega), D 0 1 1 (by omega) (by omega) (by omega), D 1 0 0 (by omega) (by omega) (by omega), D 1 0 1 (by omega) (by omega) (by omega), D 1 1 0 (by omega) (by omega) (by omega), D 1 1 1 (by omega) (by omega) (by omega)]
  clear D hB
  by_cases e : w = 0
  · subst e
    simp
  · have z : 1 - w = 0 := by omega
    rcases wc_uv h1 h2 with ⟨rfl, rfl⟩ | ⟨rfl, rfl⟩ | ⟨rfl, rfl⟩ <;> rcases hk3 with rfl | rfl | rfl <;> simp [wc_t, z, e]
theorem wc_P3l {a4 : Nat → Int32} {B : Nat → Nat} {lo hi kd w : Nat} (k : Nat) (h1 : lo < hi) (h2 : hi < 3) (hk : kd ≤ 2) (hw : w ≤ 10) (hB : ∀ j, ¬ ((6 * lo + hi) * 9 ≤ j ∧ j < (6 * lo + hi) * 9 + 9) → B j = 0) (hal : ∀ v b, v < 3 → b < 2 → wc_al a4 v b = true) :
    (wc_top false a4 (wc_T a4 (wc_rel B ((6 * lo + hi) * 9) kd w 9)) (500000, k)).1 = 0 := by
  have D := wc_P3 h1 h2 hk hw hB
  have hk3 : kd = 0 ∨ kd = 1 ∨ kd = 2 := by omega
  refine wc_low8 _ k hal ?_
  rw [D 0 0 0 (by omega) (by omega) (by omega), D 0 0 1 (by omega) (by omega) (by omega), D 0 1 0 (by omega) (by omega) (by omega), D 0 1 1 (by omega) (by omega) (by omega), D 1 0 0 (by omega) (by omega) (by omega), D 1 0 1 (by omega) (by omega) (by omega), D 1 1 0 (by omega) (by omega) (by omega), D 1 1 1 (by omega) (by omega) (by omega)]
  clear D hB
  rcases wc_uv h1 h2 with ⟨rfl, rfl⟩ | ⟨rfl, rfl⟩ | ⟨rfl, rfl⟩ <;> rcases hk3 with rfl | rfl | rfl <;> simp [wc_t]
end
section
/-- the law's own walk: where a script stands after the first checks (table: cell i holds h) -/
abbrev wc_C (i h : Nat) : Nat → Nat := wc_un (fun _ => 0) i h
def wc_S (x0 x1 x6 x7 : Int32) (i h : Nat) : Prop := (x6 = 0 ∧ wc_bp x0 ∧ h = 0 ∧ i = 9) ∨ (x6 = 1 ∧ ∃ pr, pr < 9 ∧ pr / 3 ≠ pr % 3 ∧ x0 = nI pr ∧ ((x7 = 0 ∧ wc_bv x1 ∧ h = 0 ∧ i = wc_ix pr 0) ∨ (x7 = 1 ∧ (h ≤ 40 ∨ h = 99) ∧ ∃ val, val < 4 ∧ x1 = nI val ∧ i = wc_ix pr val)))
theorem wc_C0 (i : Nat) : (fun _ => 0) = wc_C i 0 := by
  funext j
  show 0 = if j = i then 0 else 0
  split <;> rfl
theorem wc_C_le (i : Nat) {h : Nat} (hh : h ≤ 99) : ∀ j, wc_C i h j ≤ 99 := by
  intro j
  show (if j = i then h else 0) ≤ 99
  split <;> omega
theorem wc_S_ix {x0 x1 x6 x7 : Int32} {i h : Nat} (hS : wc_S x0 x1 x6 x7 i h) : ∃ lo hi l r, lo < hi ∧ hi < 3 ∧ l < 2 ∧ r < 2 ∧ i = (6 * lo + hi) * 9 + 3 * l + r ∧ h ≤ 99 := by
  rcases hS with ⟨_, _, h0, hi⟩ | ⟨_, pr, hpr, hne, _, hv⟩
  · exact ⟨0, 1, 0, 0, by omega, by omega, by omega, by omega, by omega, by omega⟩
  · rcases hv with ⟨_, _, h0, hi⟩ | ⟨_, hh, val, hval, _, hi⟩
    · obtain ⟨q1, q2, q3, q4, _⟩ := wc_ixs pr hpr hne 0 (by omega)
      exact ⟨wc_lo pr, wc_hi pr, _, _, q1, q2, q3, q4, hi, by omega⟩
    · obtain ⟨q1, q2, q3, q4, _⟩ := wc_ixs pr hpr hne val hval
      exact ⟨wc_lo pr, wc_hi pr, _, _, q1, q2, q3, q4, hi, by omega⟩
theorem wc_l554 {post : Int32 → St0 → Prop} (hP : post 1 ()) {mc ms kc ks : Nat} {x0 x1 x6 x7 z : Int32} {B : Nat → Nat} {fl ct ab cn cg ylo yhi ylv yhv : Int32} {a3 a4 a5 a6 a7 a8 a9 a10 : Nat → Int32} (h3 : ∀ j, j < 3 → a3 j = 3) {i h : Nat} (hS : wc_S x0 x1 x6 x7 i h) (hz : x6 = 1 → x7 = 1 → z = nI (B i)) :
    wL_lawOf_554 post mc ms x0 x1 x6 x7 z kc ks 3 2 fl ct ab cn cg ylo yhi ylv yhv (fun _ => 0) (wc_ar B) a3 a4 a5 a6 a7 a8 a9 a10 := by
  unfold wL_lawOf_554
  rcases hS with ⟨rfl, hp, _⟩ | ⟨rfl, pr, hpr, hne, rfl, hv⟩
  · refine wc_bcB (wc_mk h3) hp (fun s hs => ?_)
    obtain ⟨fl, ct, ab, cn, cg, ylo, yhi, ylv, yhv, a3, a4, a5, a6, a7, a8, a9, a10, rfl, h3⟩ := hs
    exact br_t rfl (br_t rfl hP)
  · rcases hv with ⟨rfl, hv, _⟩ | ⟨rfl, _, val, hval, rfl, rfl⟩
    · refine wc_bcC (wc_mk h3) pr hpr hne hv (fun s hs => ?_)
      obtain ⟨fl, ct, ab, cn, cg, ylo, yhi, ylv, yhv, a3, a4, a5, a6, a7, a8, a9, a10, rfl, h3⟩ := hs
      exact br_f (by decide) (br_t rfl (br_t rfl hP))
    · refine wc_bcA (wc_mk h3) pr val hpr hne hval (fun s hs => ?_)
      obtain ⟨fl, ct, ab, cn, cg, ylo, yhi, ylv, yhv, a3, a4, a5, a6, a7, a8, a9, a10, rfl, h3⟩ := hs
      exact br_f (by decide) (br_f (by decide) (br_t (hz rfl rfl).symm hP))
theorem wc_l489u {post : Int32 → St0 → Prop} (hP : post 1 ()) {mc ms kc ks : Nat} {x0 x1 x3 x4 x6 x7 x9 z : Int32} {B : Nat → Nat} {fl ct ab cn cg ylo yhi ylv yhv : Int32} {a3 a4 a5 a6 a7 a8 a9 a10 : Nat → Int32} (h3 : ∀ j, j < 3 → a3 j = 3) {i h : Nat} (hS : wc_S x0 x1 x6 x7 i h) (hz : x6 = 1 → x7 = 1 → x9 = nI (B i)) :
    wL_lawOf_489 post mc ms x0 x1 x3 x4 x6 x7 x9 0 z kc ks 3 2 fl ct ab cn cg ylo yhi ylv yhv (fun _ => 0) (wc_ar B) a3 a4 a5 a6 a7 a8 a9 a10 := by
  have Q : ∀ z', wL_lawOf_537 post mc ms x0 x1 x4 x6 x7 x9 0 z' kc ks 3 2 fl ct ab cn cg ylo yhi ylv yhv (fun _ => 0) (wc_ar B) a3 a4 a5 a6 a7 a8 a9 a10 := fun z' => br_t rfl (wc_l554 hP h3 hS hz)
  have R : ∀ y z', wL_lawOf_503 post mc ms x0 x1 x3 x4 x6 x7 x9 0 y z' kc ks 3 2 fl ct ab cn cg ylo yhi ylv yhv (fun _ => 0) (wc_ar B) a3 a4 a5 a6 a7 a8 a9 a10 := fun y z' => br_c (fun _ => Q _) (fun _ => br_c (fun _ => Q _) (fun _ => Q _))
  exact br_c (fun _ => R _ _) (fun _ => ⟨by decide, R _ _⟩)
theorem wc_l463u {post : Int32 → St0 → Prop} (hP : post 1 ()) {mc ms kc ks : Nat} {x0 x1 x3 x4 x6 x7 : Int32} {fl ct ab cn cg ylo yhi ylv yhv : Int32} {a3 a4 a5 a6 a7 a8 a9 a10 : Nat → Int32} (h3 : ∀ j, j < 3 → a3 j = 3) {i h : Nat} (hS : wc_S x0 x1 x6 x7 i h) :
    wL_lawOf_463 post mc ms x0 x1 x3 x4 x6 x7 (nI h) 0 (nI (if h = 0 then 8 else 6)) kc ks 3 2 fl ct ab cn cg ylo yhi ylv yhv (fun _ => 0) (wc_ar (wc_C i h)) a3 a4 a5 a6 a7 a8 a9 a10 := by
  obtain ⟨lo, hi, l, r, g1, g2, g3, g4, gi, gh⟩ := wc_S_ix hS
  have hz : x6 = 1 → x7 = 1 → nI h = nI (wc_C i h i) := fun _ _ => congrArg nI wc_us.symm
  unfold wL_lawOf_463
  refine wc_bestCount (c := if h = 0 then 8 else 6) (wc_C_le i gh) (wc_mk h3) (fun a4 k hal => ?_) (fun a4 hal => ?_) (fun s hs => ?_)
  · rw [gi]
    exact wc_P1l h k g1 g2 g3 g4 hal
  · rw [gi]
    exact wc_P1c h g1 g2 g3 g4 hal
  · obtain ⟨fl, ct, ab, cn, cg, ylo, yhi, ylv, yhv, a3, a4, a5, a6, a7, a8, a9, a10, rfl, h3⟩ := hs
    exact br_t rfl (br_c (fun _ => wc_l489u hP h3 hS hz) (fun _ => ⟨by decide, wc_l489u hP h3 hS hz⟩))
theorem wc_l420u {post : Int32 → St0 → Prop} (hP : post 1 ()) {mc ms kc ks : Nat} {x0 x1 x3 x4 x6 x7 : Int32} {fl ct ab cn cg ylo yhi ylv yhv : Int32} {a3 a4 a5 a6 a7 a8 a9 a10 : Nat → Int32} (h3 : ∀ j, j < 3 → a3 j = 3) {i h : Nat} (hS : wc_S x0 x1 x6 x7 i h) :
    wL_lawOf_420 post mc ms x0 x1 x3 x4 x6 x7 (nI h) 0 kc ks 3 2 fl ct ab cn cg ylo yhi ylv yhv (fun _ => 0) (wc_ar (wc_C i h)) a3 a4 a5 a6 a7 a8 a9 a10 := by
  obtain ⟨lo, hi, l, r, g1, g2, g3, g4, gi, gh⟩ := wc_S_ix hS
  have W := fun x3 x4 : Int32 => wc_l463u hP (mc := mc) (ms := ms) (kc := kc) (ks := ks) (x3 := x3) (x4 := x4) (fl := fl) (ct := ct) (ab := ab) (cn := cn) (cg := cg) (ylo := ylo) (yhi := yhi) (ylv := ylv) (yhv := yhv) (a4 := a4) (a5 := a5) (a6 := a6) (a7 := a7) (a8 := a8) (a9 := a9) (a10 := a10) h3 hS
  refine br_t rfl (pk_le h 0 (fun g => ?_) (fun g => ?_))
  · rw [if_pos (by omega)] at W
    exact W x3 x4
  · rw [if_neg (by omega)] at W
    exact W x3 x4
theorem wc_l395u {post : Int32 → St0 → Prop} (hP : post 1 ()) {mc ms kc ks : Nat} {x0 x1 x3 x4 x6 x7 x12 x13 z : Int32} {fl ct ab cn cg ylo yhi ylv yhv : Int32} {a3 a4 a5 a6 a7 a8 a9 a10 : Nat → Int32} (h3 : ∀ j, j < 3 → a3 j = 3) {i h : Nat} (hS : wc_S x0 x1 x6 x7 i h) (hu : x6 = 0 ∨ x12 = 0 ∨ x13 = 0) :
    wL_lawOf_395 post mc ms x0 x1 x3 x4 x6 x7 (nI h) x12 x13 z z kc ks 3 2 fl ct ab cn cg ylo yhi ylv yhv (fun _ => 0) (wc_ar (wc_C i h)) a3 a4 a5 a6 a7 a8 a9 a10 := by
  have U : wL_lawOf_419 post mc ms x0 x1 x3 x4 x6 x7 (nI h) kc ks 3 2 fl ct ab cn cg ylo yhi ylv yhv (fun _ => 0) (wc_ar (wc_C i h)) a3 a4 a5 a6 a7 a8 a9 a10 := wc_l420u hP h3 hS
  exact br_t rfl (br_c (fun _ => U) (fun e1 => br_c (fun _ => U) (fun e2 => br_c (fun _ => U) (fun e3 => absurd hu (fun q => q.elim e1 (fun q => q.elim e2 e3))))))
/-- related: the table holds weight * t -/
theorem wc_tle {kd a b : Nat} (ha : a < 3) (hb : b < 3) : wc_t kd a b ≤ 4 := by
  unfold wc_t
  have h := Nat.mul_le_mul (show a ≤ 2 by omega) (show b ≤ 2 by omega)
  split
  · split <;> omega
  · split
    · omega
    · split <;> omega
theorem wc_rel_le {B : Nat → Nat} (hB : ∀ j, B j ≤ 99) {c0 kd w : Nat} (hw : w ≤ 10) : ∀ j, wc_rel B c0 kd w 9 j ≤ 99 := by
  intro j
  unfold wc_rel
  split
  · have h := Nat.mul_le_mul hw (wc_tle (kd := kd) (show (j - c0) / 3 < 3 by omega) (show (j - c0) % 3 < 3 by omega))
    omega
  · exact hB j
theorem wc_xy : ∀ pr, pr < 9 → ∀ val, val < 4 → (nI val / 2) * (nI val - nI val / 2 * 2) = nI (wc_t 2 (wc_lv pr val) (wc_hv pr val)) ∧ (nI val / 2) ^^^ (nI val - nI val / 2 * 2) = nI (wc_t 0 (wc_lv pr val) (wc_hv pr val)) ∧ 1 - ((nI val / 2) ^^^ (nI val - nI val / 2 * 2)) = nI (wc_t 1 (wc_lv pr val) (wc_hv pr val)) := by decide +kernel
theorem wc_l463r {post : Int32 → St0 → Prop} (hP : post 1 ()) {mc ms kc ks : Nat} {x1 x7 x9 : Int32} {fl ct ab cn cg ylo yhi ylv yhv : Int32} {a3 a4 a5 a6 a7 a8 a9 a10 : Nat → Int32} (h3 : ∀ j, j < 3 → a3 j = 3) {i h : Nat} (pr kd w : Nat) (hpr : pr < 9) (hne : pr / 3 ≠ pr % 3) (hk : kd ≤ 2) (hw : w ≤ 10) (hS : wc_S (nI pr) x1 1 x7 i h)
    (hv : (x7 = 0 ∧ i = wc_ix pr 0) ∨ (x7 = 1 ∧ ∃ val, val < 4 ∧ x1 = nI val ∧ i = wc_ix pr val)) :
    wL_lawOf_463 post mc ms (nI pr) x1 (nI kd) (nI w) 1 x7 x9 1 (nI (if w = 0 then 8 else if kd = 2 then 6 else 4)) kc ks 3 2 fl ct ab cn cg ylo yhi ylv yhv (fun _ => 0) (wc_ar (wc_rel (wc_C i h) ((6 * wc_lo pr + wc_hi pr) * 9) kd w 9)) a3 a4 a5 a6 a7 a8 a9 a10 := by
  have hh : h ≤ 99 := by
    obtain ⟨_, _, _, _, _, _, _, _, _, gh⟩ := wc_S_ix hS
    exact gh
  have ix9 : ∀ val, val < 4 → (6 * wc_lo pr + wc_hi pr) * 9 ≤ wc_ix pr val ∧ wc_ix pr val < (6 * wc_lo pr + wc_hi pr) * 9 + 9 := by
    intro val hval
    obtain ⟨q1, q2, q3, q4, _⟩ := wc_ixs pr hpr hne val hval
    unfold wc_ix
    omega
  have ii : (6 * wc_lo pr + wc_hi pr) * 9 ≤ i ∧ i < (6 * wc_lo pr + wc_hi pr) * 9 + 9 := by
    rcases hv with ⟨_, rfl⟩ | ⟨_, val, hval, _, rfl⟩
    · exact ix9 0 (by omega)
    · exact ix9 val hval
  have hB : ∀ j, ¬ ((6 * wc_lo pr + wc_hi pr) * 9 ≤ j ∧ j < (6 * wc_lo pr + wc_hi pr) * 9 + 9) → wc_C i h j = 0 := fun j hj => wc_uo (fun e => hj (e ▸ ii))
  obtain ⟨q1, q2, _⟩ := wc_ixs pr hpr hne 0 (by omega)
  unfold wL_lawOf_463
  refine wc_bestCount (c := if w = 0 then 8 else if kd = 2 then 6 else 4) (wc_rel_le (wc_C_le i hh) hw) (wc_mk h3) (fun a4 k hal => wc_P3l k q1 q2 hk hw hB hal) (fun a4 hal => wc_P3c q1 q2 hk hw hB hal) (fun s hs => ?_)
  obtain ⟨fl, ct, ab, cn, cg, ylo, yhi, ylv, yhv, a3, a4, a5, a6, a7, a8, a9, a10, rfl, h3⟩ := hs
  refine br_t rfl ?_
  rcases hv with ⟨rfl, _⟩ | ⟨rfl, val, hval, rfl, rfl⟩
  · have Q : ∀ z', wL_lawOf_537 post mc ms (nI pr) x1 (nI w) 1 0 x9 1 z' kc ks 3 2 fl ct ab cn cg ylo yhi ylv yhv (fun _ => 0) (wc_ar (wc_rel (wc_C i h) ((6 * wc_lo pr + wc_hi pr) * 9) kd w 9)) a3 a4 a5 a6 a7 a8 a9 a10 := fun z' => br_f (by decide) (wc_l554 hP h3 hS (fun _ e => absurd e (by decide)))
    exact br_t rfl (br_t rfl (br_c (fun _ => Q _) (fun _ => br_c (fun _ => Q _) (fun _ => Q _))))
  · obtain ⟨t2, t0, t1⟩ := wc_xy pr hpr val hval
    obtain ⟨_, _, q3, q4, _⟩ := wc_ixs pr hpr hne val hval
    have hi : wc_rel (wc_C (wc_ix pr val) h) ((6 * wc_lo pr + wc_hi pr) * 9) kd w 9 (wc_ix pr val) = w * wc_t kd (wc_lv pr val) (wc_hv pr val) := by
      unfold wc_rel
      rw [if_pos ii, show (wc_ix pr val - (6 * wc_lo pr + wc_hi pr) * 9) / 3 = wc_lv pr val by unfold wc_ix; omega, show (wc_ix pr val - (6 * wc_lo pr + wc_hi pr) * 9) % 3 = wc_hv pr val by unfold wc_ix; omega]
    have Q : ∀ z', z' = nI (wc_t kd (wc_lv pr val) (wc_hv pr val)) → wL_lawOf_537 post mc ms (nI pr) (nI val) (nI w) 1 1 x9 1 z' kc ks 3 2 fl ct ab cn cg ylo yhi ylv yhv (fun _ => 0) (wc_ar (wc_rel (wc_C (wc_ix pr val) h) ((6 * wc_lo pr + wc_hi pr) * 9) kd w 9)) a3 a4 a5 a6 a7 a8 a9 a10 := fun z' ez => br_f (by decide) (wc_l554 hP h3 hS (fun _ _ => by rw [hi, ez, pk_mul]))
    refine br_f (by decide) ⟨by decide, br_f (by decide) ⟨by decide, pk_eq kd 2 (fun e => ?_) (fun e => pk_eq kd 0 (fun e0 => ?_) (fun e0 => ?_))⟩⟩
    · subst e
      exact Q _ t2
    · subst e0
      exact Q _ t0
    · obtain rfl : kd = 1 := by omega
      exact Q _ t1
theorem wc_l395r {post : Int32 → St0 → Prop} (hP : post 1 ()) {mc ms kc ks : Nat} {x1 x7 x9 z : Int32} {fl ct ab cn cg ylo yhi ylv yhv : Int32} {a3 a4 a5 a6 a7 a8 a9 a10 : Nat → Int32} (h3 : ∀ j, j < 3 → a3 j = 3) {i h : Nat} (pr kd w : Nat) (hpr : pr < 9) (hne : pr / 3 ≠ pr % 3) (hk : kd ≤ 2) (hw : w ≤ 10) (hS : wc_S (nI pr) x1 1 x7 i h)
    (hv : (x7 = 0 ∧ i = wc_ix pr 0) ∨ (x7 = 1 ∧ ∃ val, val < 4 ∧ x1 = nI val ∧ i = wc_ix pr val)) :
    wL_lawOf_395 post mc ms (nI pr) x1 (nI kd) (nI w) 1 x7 x9 1 1 z z kc ks 3 2 fl ct ab cn cg ylo yhi ylv yhv (fun _ => 0) (wc_ar (wc_rel (wc_C i h) ((6 * wc_lo pr + wc_hi pr) * 9) kd w 9)) a3 a4 a5 a6 a7 a8 a9 a10 := by
  have W := wc_l463r hP (mc := mc) (ms := ms) (kc := kc) (ks := ks) (x9 := x9) (fl := fl) (ct := ct) (ab := ab) (cn := cn) (cg := cg) (ylo := ylo) (yhi := yhi) (ylv := ylv) (yhv := yhv) (a4 := a4) (a5 := a5) (a6 := a6) (a7 := a7) (a8 := a8) (a9 := a9) (a10 := a10) h3 pr kd w hpr hne hk hw hS hv
  refine br_t rfl (br_f (by decide) (br_f (by decide) (br_f (by decide) (br_f (by decide) (pk_eq w 0 (fun e => ?_) (fun e => pk_eq kd 2 (fun e2 => ?_) (fun e2 => ?_)))))))
  · rw [if_pos e] at W
    exact W
  · rw [if_neg e, if_pos e2] at W
    exact W
  · rw [if_neg e, if_neg e2] at W
    exact W
def wc_gk (x g : Int32) (n : Nat) : Prop := (g = 0 ∧ (x < 0 ∨ ¬ x ≤ nI n)) ∨ (g = 1 ∧ ∃ k, k ≤ n ∧ x = nI k)
theorem wc_l354 {post : Int32 → St0 → Prop} (hP : post 1 ()) {mc ms kc ks : Nat} {x0 x1 x3 x4 x6 x7 x12 x13 : Int32} {fl ct ab cn cg ylo yhi ylv yhv : Int32} {a3 a4 a5 a6 a7 a8 a9 a10 : Nat → Int32} (h3 : ∀ j, j < 3 → a3 j = 3) {i h : Nat} (hS : wc_S x0 x1 x6 x7 i h) (hk : wc_gk x3 x12 2) (hw : wc_gk x4 x13 10) :
    wL_lawOf_354 post mc ms x0 x1 x3 x4 x6 x7 (nI h) x12 x13 kc ks 3 2 fl ct ab cn cg ylo yhi ylv yhv (fun _ => 0) (wc_ar (wc_C i h)) a3 a4 a5 a6 a7 a8 a9 a10 := by
  have hS' := hS
  unfold wL_lawOf_354
  rcases hS with ⟨rfl, hp, _⟩ | ⟨rfl, pr, hpr, hne, rfl, hv⟩
  · refine wc_relB (wc_mk h3) hp (fun s hs => ?_)
    obtain ⟨fl, ct, ab, cn, cg, ylo, yhi, ylv, yhv, a3, a4, a5, a6, a7, a8, a9, a10, rfl, h3⟩ := hs
    exact br_t rfl (wc_l395u hP h3 hS' (Or.inl rfl))
  · rcases hk with ⟨rfl, hk⟩ | ⟨rfl, kd, hk, rfl⟩
    · refine wc_relC (wc_mk h3) pr hpr hne hk (fun s hs => ?_)
      obtain ⟨fl, ct, ab, cn, cg, ylo, yhi, ylv, yhv, a3, a4, a5, a6, a7, a8, a9, a10, rfl, h3⟩ := hs
      exact br_f (by decide) (br_t rfl (wc_l395u hP h3 hS' (Or.inr (Or.inl rfl))))
    · rcases hw with ⟨rfl, hw⟩ | ⟨rfl, w, hw, rfl⟩
      · refine wc_relD (wc_mk h3) pr hpr hne (nI_pos (by omega)) (nI_le (b := 2) hk (by omega)) hw (fun s hs => ?_)
        obtain ⟨fl, ct, ab, cn, cg, ylo, yhi, ylv, yhv, a3, a4, a5, a6, a7, a8, a9, a10, rfl, h3⟩ := hs
        exact br_f (by decide) (br_f (by decide) (br_t rfl (wc_l395u hP h3 hS' (Or.inr (Or.inr rfl)))))
      · refine wc_relA (wc_mk h3) pr kd w hpr hne hk hw (fun s hs => ?_)
        obtain ⟨fl, ct, ab, cn, cg, ylo, yhi, ylv, yhv, a3, a4, a5, a6, a7, a8, a9, a10, rfl, h3⟩ := hs
        refine br_f (by decide) (br_f (by decide) (br_f (by decide) (wc_l395r hP h3 pr kd w hpr hne hk hw hS' ?_)))
        rcases hv with ⟨e, _, _, e2⟩ | ⟨e, _, e2⟩
        · exact Or.inl ⟨e, e2⟩
        · exact Or.inr ⟨e, e2⟩
theorem wc_l335 {post : Int32 → St0 → Prop} (hP : post 1 ()) {mc ms kc ks : Nat} {x0 x1 x3 x4 x6 x7 x12 : Int32} {fl ct ab cn cg ylo yhi ylv yhv : Int32} {a3 a4 a5 a6 a7 a8 a9 a10 : Nat → Int32} (h3 : ∀ j, j < 3 → a3 j = 3) {i h : Nat} (hS : wc_S x0 x1 x6 x7 i h) (hk : wc_gk x3 x12 2) :
    wL_lawOf_335 post mc ms x0 x1 x3 x4 x6 x7 (nI h) x12 kc ks 3 2 fl ct ab cn cg ylo yhi ylv yhv (fun _ => 0) (wc_ar (wc_C i h)) a3 a4 a5 a6 a7 a8 a9 a10 := by
  refine br_c (fun e => ?_) (fun e => br_c (fun e2 => ?_) (fun e2 => ?_))
  · unfold wL_lawOf_353
    exact wc_l354 hP h3 hS hk (Or.inl ⟨rfl, Or.inl e⟩)
  · unfold wL_lawOf_353
    exact wc_l354 hP h3 hS hk (Or.inl ⟨rfl, Or.inr (Int32.not_le.mpr e2)⟩)
  · exact wc_l354 hP h3 hS hk (Or.inr ⟨rfl, nI_of2 (M := 10) (by decide) e (Int32.not_lt.mp e2)⟩)
theorem wc_l308 {post : Int32 → St0 → Prop} (hP : post 1 ()) {mc ms kc ks : Nat} {x0 x1 x3 x4 x6 x7 z : Int32} {fl ct ab cn cg ylo yhi ylv yhv : Int32} {a3 a4 a5 a6 a7 a8 a9 a10 : Nat → Int32} (h3 : ∀ j, j < 3 → a3 j = 3) {i h : Nat} (hS : wc_S x0 x1 x6 x7 i h) :
    wL_lawOf_308 post mc ms x0 x1 x3 x4 x6 x7 (nI h) z z kc ks 3 2 fl ct ab cn cg ylo yhi ylv yhv (fun _ => 0) (wc_ar (wc_C i h)) a3 a4 a5 a6 a7 a8 a9 a10 := by
  obtain ⟨lo, hi, l, r, g1, g2, g3, g4, gi, gh⟩ := wc_S_ix hS
  unfold wL_lawOf_308
  refine br_t rfl ?_
  refine wc_best (wc_C_le i gh) (wc_mk h3) (fun a4 k hal => ?_) (fun s hs => ?_)
  · rw [gi]
    exact wc_P1l h k g1 g2 g3 g4 hal
  · obtain ⟨fl, ct, ab, cn, cg, ylo, yhi, ylv, yhv, a3, a4, a5, a6, a7, a8, a9, a10, rfl, h3⟩ := hs
    refine br_t rfl (br_c (fun e => ?_) (fun e => br_c (fun e2 => ?_) (fun e2 => ?_)))
    · unfold wL_lawOf_334
      exact wc_l335 hP h3 hS (Or.inl ⟨rfl, Or.inl e⟩)
    · unfold wL_lawOf_334
      exact wc_l335 hP h3 hS (Or.inl ⟨rfl, Or.inr (Int32.not_le.mpr e2)⟩)
    · exact wc_l335 hP h3 hS (Or.inr ⟨rfl, nI_of2 (M := 2) (by decide) e (Int32.not_lt.mp e2)⟩)
theorem wc_l285 {post : Int32 → St0 → Prop} (hP : post 1 ()) {mc ms kc ks : Nat} {x0 x1 x3 x4 x6 x7 z : Int32} {fl ct ab cn cg ylo yhi ylv yhv : Int32} {a3 a4 a5 a6 a7 a8 a9 a10 : Nat → Int32} (h3 : ∀ j, j < 3 → a3 j = 3) {i h : Nat} (hS : wc_S x0 x1 x6 x7 i h) :
    wL_lawOf_285 post mc ms x0 x1 x3 x4 x6 x7 (nI h) z z kc ks 3 2 fl ct ab cn cg ylo yhi ylv yhv (fun _ => 0) (wc_ar (wc_C i h)) a3 a4 a5 a6 a7 a8 a9 a10 := by
  obtain ⟨lo, hi, l, r, g1, g2, g3, g4, gi, gh⟩ := wc_S_ix hS
  unfold wL_lawOf_285
  refine br_t rfl ?_
  refine wc_countUp (c := if h = 0 then 8 else 6) (wc_C_le i gh) (wc_mk h3) (fun a4 hal => ?_) (fun s hs => ?_)
  · rw [gi]
    exact wc_P1c h g1 g2 g3 g4 hal
  · obtain ⟨fl, ct, ab, cn, cg, ylo, yhi, ylv, yhv, a3, a4, a5, a6, a7, a8, a9, a10, rfl, h3⟩ := hs
    refine pk_le h 0 (fun e => ?_) (fun e => ?_)
    · rw [if_pos (by omega)]
      exact wc_l308 hP h3 hS
    · rw [if_neg (by omega)]
      exact wc_l308 hP h3 hS
theorem wc_l240 {post : Int32 → St0 → Prop} (hP : post 1 ()) {mc ms kc ks : Nat} {x0 x1 x3 x4 x6 x7 z : Int32} {fl ct ab cn cg ylo yhi ylv yhv : Int32} {a3 a4 a5 a6 a7 a8 a9 a10 : Nat → Int32} (h3 : ∀ j, j < 3 → a3 j = 3) {i h : Nat} (hS : wc_S x0 x1 x6 x7 i h) :
    wL_lawOf_240 post mc ms x0 x1 x3 x4 x6 x7 (nI h) z z kc ks 3 2 fl ct ab cn cg ylo yhi ylv yhv (fun _ => 0) (wc_ar (wc_C i h)) a3 a4 a5 a6 a7 a8 a9 a10 := by
  have hS' := hS
  unfold wL_lawOf_240
  refine br_t rfl ?_
  rcases hS with ⟨rfl, hp, _⟩ | ⟨rfl, pr, hpr, hne, rfl, hv⟩
  · refine wc_bwB (wc_mk h3) hp (fun s hs => ?_)
    obtain ⟨fl, ct, ab, cn, cg, ylo, yhi, ylv, yhv, a3, a4, a5, a6, a7, a8, a9, a10, rfl, h3⟩ := hs
    exact br_t rfl (wc_l285 hP h3 hS')
  · rcases hv with ⟨rfl, hv, _⟩ | ⟨rfl, hh, val, hval, rfl, rfl⟩
    · refine wc_bwC (wc_mk h3) pr hpr hne hv (fun s hs => ?_)
      obtain ⟨fl, ct, ab, cn, cg, ylo, yhi, ylv, yhv, a3, a4, a5, a6, a7, a8, a9, a10, rfl, h3⟩ := hs
      exact br_f (by decide) (br_t rfl (wc_l285 hP h3 hS'))
    · obtain ⟨q1, q2, q3, q4, _⟩ := wc_ixs pr hpr hne val hval
      refine wc_bwA (wc_C_le _ (by omega)) (wc_mk h3) pr val (min (wc_q h) 500000) hpr hne hval (fun a4 k ham => wc_P2 h k q1 q2 q3 q4 ham) (fun z s hs => ?_) (fun z s hs => ?_)
      · have h9 : h = 99 := by
          rcases hh with e | e
          · rw [show wc_q h = h from if_neg (by omega)] at z
            omega
          · exact e
        obtain ⟨fl, ct, ab, cn, cg, ylo, yhi, ylv, yhv, a3, a4, a5, a6, a7, a8, a9, a10, rfl, h3⟩ := hs
        exact br_f (by decide) (br_f (by decide) (br_t (by rw [h9]; rfl) (wc_l285 hP h3 hS')))
      · have h9 : h ≠ 99 := by
          intro e
          rw [show wc_q h = 1000000 from if_pos e] at z
          omega
        have e : min (wc_q h) 500000 = h := by
          rw [show wc_q h = h from if_neg h9]
          omega
        rw [e]
        obtain ⟨fl, ct, ab, cn, cg, ylo, yhi, ylv, yhv, a3, a4, a5, a6, a7, a8, a9, a10, rfl, h3⟩ := hs
        exact br_f (by decide) (br_f (by decide) (pk_eq h 99 (fun q => absurd q h9) (fun _ => wc_l285 hP h3 hS')))
theorem wc_turn : ∀ pr, pr < 9 → pr / 3 ≠ pr % 3 → ∀ val, val < 4 → pr % 3 * 3 + pr / 3 < 9 ∧ (pr % 3 * 3 + pr / 3) / 3 ≠ (pr % 3 * 3 + pr / 3) % 3 ∧ val % 2 * 2 + val / 2 < 4 ∧ wc_ix (pr % 3 * 3 + pr / 3) (val % 2 * 2 + val / 2) = wc_ix pr val := by decide
theorem wc_l161 {post : Int32 → St0 → Prop} (hP : post 1 ()) {mc ms kc ks : Nat} {x0 x1 x3 x4 x6 x7 z : Int32} {fl ct ab cn cg ylo yhi ylv yhv : Int32} {a3 a4 a5 a6 a7 a8 a9 a10 : Nat → Int32} (h3 : ∀ j, j < 3 → a3 j = 3) {i h : Nat} (hS : wc_S x0 x1 x6 x7 i h) :
    wL_lawOf_161 post mc ms x0 x1 x3 x4 x6 x7 (nI h) z z kc ks 3 2 fl ct ab cn cg ylo yhi ylv yhv (fun _ => 0) (wc_ar (wc_C i h)) a3 a4 a5 a6 a7 a8 a9 a10 := by
  have hS' := hS
  unfold wL_lawOf_161
  refine br_t rfl ?_
  rcases hS with ⟨rfl, hp, _⟩ | ⟨rfl, pr, hpr, hne, rfl, hv⟩
  · refine br_t rfl ?_
    have W : ∀ t : Int32, wL_lawOf_204 post mc ms x0 x1 x3 x4 0 x7 (nI h) 0 t kc ks 3 2 fl ct ab cn cg ylo yhi ylv yhv (fun _ => 0) (wc_ar (wc_C i h)) a3 a4 a5 a6 a7 a8 a9 a10 := by
      intro t
      unfold wL_lawOf_204
      refine wc_bcB (wc_mk h3) (Or.inr (Or.inr ⟨0, by omega, rfl, rfl⟩)) (fun s hs => ?_)
      obtain ⟨fl, ct, ab, cn, cg, ylo, yhi, ylv, yhv, a3, a4, a5, a6, a7, a8, a9, a10, rfl, h3⟩ := hs
      exact br_t rfl (br_t rfl (wc_l240 hP h3 hS'))
    exact br_c (fun _ => W _) (fun _ => ⟨by decide, by decide, W _⟩)
  · refine br_f (by decide) ⟨by decide, by decide, ?_⟩
    have ed : nI pr / 3 = nI (pr / 3) := pk_div (d := 3) (by omega) (by omega) (by omega)
    have er : nI pr - nI pr / 3 * 3 = nI (pr % 3) := pk_rem (d := 3) (by omega) (by omega) (by omega)
    have eb : ((nI pr - nI pr / 3 * 3) * 3) + (nI pr / 3) = nI (pr % 3 * 3 + pr / 3) := by
      rw [er, ed]
      show nI (pr % 3) * nI 3 + nI (pr / 3) = _
      rw [pk_mul, nI_add]
    rw [eb]
    rcases hv with ⟨rfl, hv, rfl, rfl⟩ | ⟨rfl, hh, val, hval, rfl, rfl⟩
    · obtain ⟨b1, b2, _, _⟩ := wc_turn pr hpr hne 0 (by omega)
      refine br_t rfl ?_
      unfold wL_lawOf_204
      refine wc_bcA (wc_mk h3) (pr % 3 * 3 + pr / 3) 0 b1 b2 (by omega) (fun s hs => ?_)
      rw [← wc_C0]
      obtain ⟨fl, ct, ab, cn, cg, ylo, yhi, ylv, yhv, a3, a4, a5, a6, a7, a8, a9, a10, rfl, h3⟩ := hs
      exact br_f (by decide) (br_t rfl (br_f (by decide) (wc_l240 hP h3 hS')))
    · obtain ⟨b1, b2, b3, b4⟩ := wc_turn pr hpr hne val hval
      have vd : nI val / 2 = nI (val / 2) := pk_div (d := 2) (by omega) (by omega) (by omega)
      have vr : nI val - nI val / 2 * 2 = nI (val % 2) := pk_rem (d := 2) (by omega) (by omega) (by omega)
      have ev : ((nI val - nI val / 2 * 2) * 2) + (nI val / 2) = nI (val % 2 * 2 + val / 2) := by
        rw [vr, vd]
        show nI (val % 2) * nI 2 + nI (val / 2) = _
        rw [pk_mul, nI_add]
      refine br_f (by decide) ⟨by decide, by decide, ?_⟩
      rw [ev]
      unfold wL_lawOf_204
      refine wc_bcA (wc_mk h3) _ _ b1 b2 b3 (fun s hs => ?_)
      rw [b4, show wc_C (wc_ix pr val) h (wc_ix pr val) = h from wc_us]
      obtain ⟨fl, ct, ab, cn, cg, ylo, yhi, ylv, yhv, a3, a4, a5, a6, a7, a8, a9, a10, rfl, h3⟩ := hs
      exact br_f (by decide) (br_f (by decide) (wc_l240 hP h3 hS'))
theorem wc_l136 {post : Int32 → St0 → Prop} (hP : post 1 ()) {mc ms kc ks : Nat} {x0 x1 x3 x4 x6 x7 : Int32} {fl ct ab cn cg ylo yhi ylv yhv : Int32} {a3 a4 a5 a6 a7 a8 a9 a10 : Nat → Int32} (h3 : ∀ j, j < 3 → a3 j = 3) {i h : Nat} (hS : wc_S x0 x1 x6 x7 i h) :
    wL_lawOf_136 post mc ms x0 x1 x3 x4 x6 x7 (nI h) kc ks 3 2 fl ct ab cn cg ylo yhi ylv yhv (fun _ => 0) (wc_ar (wc_C i h)) a3 a4 a5 a6 a7 a8 a9 a10 := by
  have hS' := hS
  unfold wL_lawOf_136
  rcases hS with ⟨rfl, hp, _⟩ | ⟨rfl, pr, hpr, hne, rfl, hv⟩
  · refine wc_bcB (wc_mk h3) hp (fun s hs => ?_)
    obtain ⟨fl, ct, ab, cn, cg, ylo, yhi, ylv, yhv, a3, a4, a5, a6, a7, a8, a9, a10, rfl, h3⟩ := hs
    refine br_t rfl ?_
    unfold wL_lawOf_160
    exact wc_l161 hP h3 hS'
  · rcases hv with ⟨rfl, hv, _⟩ | ⟨rfl, _, val, hval, rfl, rfl⟩
    · refine wc_bcC (wc_mk h3) pr hpr hne hv (fun s hs => ?_)
      obtain ⟨fl, ct, ab, cn, cg, ylo, yhi, ylv, yhv, a3, a4, a5, a6, a7, a8, a9, a10, rfl, h3⟩ := hs
      refine br_f (by decide) (br_t rfl ?_)
      unfold wL_lawOf_160
      exact wc_l161 hP h3 hS'
    · refine wc_bcA (wc_mk h3) pr val hpr hne hval (fun s hs => ?_)
      rw [show wc_C (wc_ix pr val) h (wc_ix pr val) = h from wc_us]
      obtain ⟨fl, ct, ab, cn, cg, ylo, yhi, ylv, yhv, a3, a4, a5, a6, a7, a8, a9, a10, rfl, h3⟩ := hs
      exact br_f (by decide) (br_f (by decide) (wc_l161 hP h3 hS'))
end
section
theorem wc_l71 {post : Int32 → St0 → Prop} (hP : post 1 ()) {mc ms kc ks : Nat} {x0 x1 x2 x3 x4 x6 x7 x8 : Int32} {fl ct ab cn cg ylo yhi ylv yhv : Int32} {a3 a4 a5 a6 a7 a8 a9 a10 : Nat → Int32} (h3 : ∀ j, j < 3 → a3 j = 3)
    (hp : (x6 = 0 ∧ wc_bp x0) ∨ (x6 = 1 ∧ ∃ pr, pr < 9 ∧ pr / 3 ≠ pr % 3 ∧ x0 = nI pr)) (hv : (x7 = 0 ∧ wc_bv x1) ∨ (x7 = 1 ∧ ∃ val, val < 4 ∧ x1 = nI val)) (hc : (x8 = 0 ∧ ¬ (¬ x2 < 0 ∧ x2 ≤ 40) ∧ ¬ x2 = 99) ∨ (x8 = 1 ∧ ∃ c, (c ≤ 40 ∨ c = 99) ∧ x2 = nI c)) :
    wL_lawOf_71 post mc ms x0 x1 x2 x3 x4 x6 x7 x8 kc ks 3 2 fl ct ab cn cg ylo yhi ylv yhv (fun _ => 0) (wc_ar (fun _ => 0)) a3 a4 a5 a6 a7 a8 a9 a10 := by
  have K := fun i => (wc_C0 i ▸ wc_mk h3 : wc_K (wc_C i 0) (3, 2, fl, ct, ab, cn, cg, ylo, yhi, ylv, yhv, (fun _ => 0), (wc_ar (fun _ => 0)), a3, a4, a5, a6, a7, a8, a9, a10))
  unfold wL_lawOf_71
  rcases hp with ⟨rfl, hp⟩ | ⟨rfl, pr, hpr, hne, rfl⟩
  · refine wc_binB (K 9) hp (fun s hs => ?_)
    obtain ⟨fl, ct, ab, cn, cg, ylo, yhi, ylv, yhv, a3, a4, a5, a6, a7, a8, a9, a10, rfl, h3⟩ := hs
    refine br_t rfl (br_t rfl (br_t rfl ?_))
    unfold wL_lawOf_135
    exact wc_l136 hP h3 (h := 0) (Or.inl ⟨rfl, hp, rfl, rfl⟩)
  · rcases hv with ⟨rfl, hv⟩ | ⟨rfl, val, hval, rfl⟩
    · refine wc_binC (K (wc_ix pr 0)) pr hpr hne hv (fun s hs => ?_)
      obtain ⟨fl, ct, ab, cn, cg, ylo, yhi, ylv, yhv, a3, a4, a5, a6, a7, a8, a9, a10, rfl, h3⟩ := hs
      refine br_f (by decide) (br_t rfl (br_t rfl (br_f (by decide) (br_t rfl ?_))))
      unfold wL_lawOf_135
      exact wc_l136 hP h3 (h := 0) (Or.inr ⟨rfl, pr, hpr, hne, rfl, Or.inl ⟨rfl, hv, rfl, rfl⟩⟩)
    · rcases hc with ⟨rfl, hc, hc9⟩ | ⟨rfl, c, hc, rfl⟩
      · refine wc_binD (K (wc_ix pr val)) pr val hpr hne hval hc hc9 (fun s hs => ?_)
        obtain ⟨fl, ct, ab, cn, cg, ylo, yhi, ylv, yhv, a3, a4, a5, a6, a7, a8, a9, a10, rfl, h3⟩ := hs
        refine br_f (by decide) (br_f (by decide) (br_t rfl (br_t rfl (br_f (by decide) (br_f (by decide) (br_t rfl ?_))))))
        unfold wL_lawOf_135
        exact wc_l136 hP h3 (h := 0) (Or.inr ⟨rfl, pr, hpr, hne, rfl, Or.inr ⟨rfl, Or.inl (by omega), val, hval, rfl, rfl⟩⟩)
      · refine wc_binA (wc_mk h3) pr val c hpr hne hval hc (fun s hs => ?_)
        obtain ⟨fl, ct, ab, cn, cg, ylo, yhi, ylv, yhv, a3, a4, a5, a6, a7, a8, a9, a10, rfl, h3⟩ := hs
        refine br_f (by decide) (br_f (by decide) (br_f (by decide) (br_t rfl (br_f (by decide) (br_f (by decide) (br_f (by decide) ?_))))))
        exact wc_l136 hP h3 (Or.inr ⟨rfl, pr, hpr, hne, rfl, Or.inr ⟨rfl, hc, val, hval, rfl, rfl⟩⟩)
theorem wc_l48 {post : Int32 → St0 → Prop} (hP : post 1 ()) {mc ms kc ks : Nat} {x0 x1 x2 x3 x4 x6 x7 : Int32} {fl ct ab cn cg ylo yhi ylv yhv : Int32} {a3 a4 a5 a6 a7 a8 a9 a10 : Nat → Int32} (h3 : ∀ j, j < 3 → a3 j = 3)
    (hp : (x6 = 0 ∧ wc_bp x0) ∨ (x6 = 1 ∧ ∃ pr, pr < 9 ∧ pr / 3 ≠ pr % 3 ∧ x0 = nI pr)) (hv : (x7 = 0 ∧ wc_bv x1) ∨ (x7 = 1 ∧ ∃ val, val < 4 ∧ x1 = nI val)) :
    wL_lawOf_48 post mc ms x0 x1 x2 x3 x4 x6 x7 kc ks 3 2 fl ct ab cn cg ylo yhi ylv yhv (fun _ => 0) (wc_ar (fun _ => 0)) a3 a4 a5 a6 a7 a8 a9 a10 := by
  have V : ¬ (¬ x2 < 0 ∧ x2 ≤ 40) → wL_lawOf_60 post mc ms x0 x1 x2 x3 x4 x6 x7 kc ks 3 2 fl ct ab cn cg ylo yhi ylv yhv (fun _ => 0) (wc_ar (fun _ => 0)) a3 a4 a5 a6 a7 a8 a9 a10 := by
    intro g
    refine br_c (fun e => ?_) (fun e => wc_l71 hP h3 hp hv (Or.inl ⟨rfl, g, e⟩))
    unfold wL_lawOf_66
    exact wc_l71 hP h3 hp hv (Or.inr ⟨rfl, 99, Or.inr rfl, e⟩)
  refine br_c (fun e => V (fun q => q.1 e)) (fun e => br_c (fun e2 => ?_) (fun e2 => V (fun q => e2 q.2)))
  obtain ⟨c, hc, ec⟩ := nI_of2 (M := 40) (n := 40) (by decide) e e2
  unfold wL_lawOf_66
  exact wc_l71 hP h3 hp hv (Or.inr ⟨rfl, c, Or.inl hc, ec⟩)
theorem wc_l32 {post : Int32 → St0 → Prop} (hP : post 1 ()) {mc ms kc ks : Nat} {x0 x1 x2 x3 x4 x6 : Int32} {fl ct ab cn cg ylo yhi ylv yhv : Int32} {a3 a4 a5 a6 a7 a8 a9 a10 : Nat → Int32} (h3 : ∀ j, j < 3 → a3 j = 3)
    (hp : (x6 = 0 ∧ wc_bp x0) ∨ (x6 = 1 ∧ ∃ pr, pr < 9 ∧ pr / 3 ≠ pr % 3 ∧ x0 = nI pr)) :
    wL_lawOf_32 post mc ms x0 x1 x2 x3 x4 x6 kc ks 3 2 fl ct ab cn cg ylo yhi ylv yhv (fun _ => 0) (wc_ar (fun _ => 0)) a3 a4 a5 a6 a7 a8 a9 a10 := by
  refine br_c (fun e => ?_) (fun e => br_c (fun e2 => ?_) (fun e2 => ?_))
  · unfold wL_lawOf_47
    exact wc_l48 hP h3 hp (Or.inl ⟨rfl, Or.inl e⟩)
  · unfold wL_lawOf_47
    exact wc_l48 hP h3 hp (Or.inl ⟨rfl, Or.inr e2⟩)
  · rcases pk_ix x1 (n := 4) (by omega) with q | q | ⟨val, hval, ev⟩
    · exact absurd q e
    · exact absurd q e2
    · exact wc_l48 hP h3 hp (Or.inr ⟨rfl, val, hval, ev⟩)
theorem wc_lawOf {post : Int32 → St0 → Prop} (hP : post 1 ()) (p0 p1 p2 p3 p4 : Int32) : wpL_lawOf post 454 7264 () p0 p1 p2 p3 p4 := by
  refine ⟨by omega, by omega, 10, 842, by omega, by omega, ?_⟩
  refine wc_init 10 842 (by omega) (by omega) (fun s hs => ?_)
  obtain ⟨fl, ct, ab, cn, cg, ylo, yhi, ylv, yhv, a3, a4, a5, a6, a7, a8, a9, a10, rfl, h3⟩ := hs
  rcases pk_ix p0 (n := 9) (by omega) with q | q | ⟨pr, hpr, rfl⟩
  · refine br_t q ?_
    unfold wL_lawOf_31
    exact wc_l32 hP h3 (Or.inl ⟨rfl, Or.inl q⟩)
  · refine br_f (wc_nlt (m := 0) q (by omega) (by omega)) (br_t q ?_)
    unfold wL_lawOf_31
    exact wc_l32 hP h3 (Or.inl ⟨rfl, Or.inr (Or.inl q)⟩)
  · refine br_f (nI_pos (by omega)) (br_f (nI_ge (b := 9) hpr (by omega)) ⟨by decide, pk_eq (pr % 4) 0 (fun e => ?_) (fun e => ?_) (pk_rem (d := 4) (by omega) (by omega) (by omega))⟩)
    · unfold wL_lawOf_31
      exact wc_l32 hP h3 (Or.inl ⟨rfl, Or.inr (Or.inr ⟨pr, hpr, by omega, rfl⟩)⟩)
    · exact wc_l32 hP h3 (Or.inr ⟨rfl, pr, hpr, by omega, rfl⟩)
theorem wc_cellAt {post : Int32 → Prop} {L : Nat} {xs : Nat → Int32} (hL : L ≤ 5) (i : Nat) (hi : i < 5) (H : ∀ r, post r) : wpL_cellAt post L xs () (nI i) :=
  pk_le L i (fun _ => H _) (fun z => ⟨pk_in i L z rfl (by omega), H _⟩)
theorem i_vc (xs : Nat → Int32) (L : Nat) (hL : L ≤ 5) : wpL_law (fun r => r = 1) L xs := by
  unfold wpL_law
  refine wc_cellAt hL 0 (by omega) (fun r1 => ?_)
  refine wc_cellAt hL 1 (by omega) (fun r2 => ?_)
  refine wc_cellAt hL 2 (by omega) (fun r3 => ?_)
  refine wc_cellAt hL 3 (by omega) (fun r4 => ?_)
  refine wc_cellAt hL 4 (by omega) (fun r5 => ?_)
  exact ⟨454, 7264, by omega, by omega, wc_lawOf rfl r1 r2 r3 r4 r5⟩
end
