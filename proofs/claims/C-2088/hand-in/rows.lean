section
/-! rows of the kit (PURE-ROWS), as given -/
theorem pk_us {f : Nat → Int32} {k : Nat} {x : Int32} : upd f k x k = x := if_pos rfl
theorem pk_un {f : Nat → Int32} {k j : Nat} {x : Int32} (h : j ≠ k) : upd f k x j = f j := if_neg h
theorem pk_sub {a b : Nat} (h : b ≤ a) : nI a - nI b = nI (a - b) := by
  obtain ⟨c, rfl⟩ : ∃ c, a = c + b := ⟨a - b, by omega⟩
  rw [← nI_add, Int32.add_sub_cancel, Nat.add_sub_cancel]
theorem pk_mul (a b : Nat) : nI a * nI b = nI (a * b) := (Int32.ofNat_mul a b).symm
theorem pk_div {a d : Nat} (ha : a < 2 ^ 31) (h0 : 0 < d) (hd : d < 2 ^ 31) : nI a / nI d = nI (a / d) := by
  apply Int32.toInt_inj.mp
  rw [lg_idiv_nonneg (by rw [nI_toInt ha]; omega) (by rw [nI_toInt hd]; omega), nI_toInt ha, nI_toInt hd, nI_toInt (Nat.lt_of_le_of_lt (Nat.div_le_self a d) ha)]
  first | rfl | exact (Int.natCast_ediv _ _).symm
theorem pk_rem {a d : Nat} (ha : a < 2 ^ 31) (h0 : 0 < d) (hd : d < 2 ^ 31) : nI a - nI a / nI d * nI d = nI (a % d) := by
  rw [pk_div ha h0 hd, pk_mul, pk_sub (Nat.div_mul_le_self a d)]
  exact congrArg nI (by have := Nat.div_add_mod' a d; omega)
theorem pk_sub_toInt {a b : Nat} (ha : a < 2 ^ 30) (hb : b < 2 ^ 30) : (nI a - nI b).toInt = (a : Int) - b := by
  rw [Int32.toInt_sub, nI_toInt (by omega), nI_toInt (by omega)]
  exact Int.bmod_eq_of_le (by omega) (by omega)
theorem pk_le {x y : Int32} {A B : Prop} (a b : Nat) (f : a ≤ b → A) (g : b < a → B) (hx : x = nI a := by rfl) (hy : y = nI b := by rfl) (ha : a < 2 ^ 31 := by omega) (hb : b < 2 ^ 31 := by omega) : (x ≤ y → A) ∧ (¬ x ≤ y → B) := by
  subst hx hy
  rw [nI_leI ha hb]
  exact ⟨f, fun z => g (by omega)⟩
theorem pk_lt {x y : Int32} {A B : Prop} (a b : Nat) (f : a < b → A) (g : b ≤ a → B) (hx : x = nI a := by rfl) (hy : y = nI b := by rfl) (ha : a < 2 ^ 31 := by omega) (hb : b < 2 ^ 31 := by omega) : (x < y → A) ∧ (¬ x < y → B) := by
  subst hx hy
  rw [nI_ltI ha hb]
  exact ⟨f, fun z => g (by omega)⟩
theorem pk_eq {x y : Int32} {A B : Prop} (a b : Nat) (f : a = b → A) (g : a ≠ b → B) (hx : x = nI a := by rfl) (hy : y = nI b := by rfl) (ha : a < 2 ^ 31 := by omega) (hb : b < 2 ^ 31 := by omega) : (x = y → A) ∧ (¬ x = y → B) := by
  subst hx hy
  rw [nI_eq ha hb]
  exact ⟨f, g⟩
theorem pk_in {x : Int32} (n N : Nat) (h : n < N) (hx : x = nI n := by rfl) (hN : N < 2 ^ 31 := by omega) : vp_in x N := by
  subst hx
  exact vp_in_nI h hN
theorem pk_cl {x : Int32} (n : Nat) (hx : x = nI n := by rfl) (h : n < 2 ^ 31 := by omega) : x.toNatClampNeg = n := by
  subst hx
  exact nI_clamp h
theorem pk_tn {n : Nat} (h : n < 2 ^ 32) : (nI n).toBitVec.toNat = n := Nat.mod_eq_of_lt h
theorem pk_and (x : Int32) {m : Int32} (k : Nat) (hm : m.toBitVec.toNat = 2 ^ k - 1) : x &&& m = nI (x.toBitVec.toNat % 2 ^ k) := by
  apply Int32.toBitVec_inj.mp
  apply BitVec.eq_of_toNat_eq
  rw [Int32.toBitVec_and, BitVec.toNat_and, hm, Nat.and_two_pow_sub_one_eq_mod]
  show _ = (BitVec.ofNat 32 _).toNat
  rw [BitVec.toNat_ofNat]
  exact (Nat.mod_eq_of_lt (Nat.lt_of_le_of_lt (Nat.mod_le _ _) x.toBitVec.isLt)).symm
theorem pk_andN {n : Nat} (h : n < 2 ^ 32) {m : Int32} (k : Nat) (hm : m.toBitVec.toNat = 2 ^ k - 1) : nI n &&& m = nI (n % 2 ^ k) := by
  rw [pk_and _ k hm, pk_tn h]
theorem pk_shr (a s : Int32) (k : Nat) (hs : (s.toBitVec.smod 32).toNat = k) : (a >>> s).toInt = a.toInt >>> k := by
  show (a.toBitVec.sshiftRight (s.toBitVec.smod 32).toNat).toInt = _
  rw [hs, BitVec.toInt_sshiftRight]
  rfl
theorem pk_shrN {n : Nat} (h : n < 2 ^ 31) (s : Int32) (k : Nat) (hs : (s.toBitVec.smod 32).toNat = k) : nI n >>> s = nI (n / 2 ^ k) := by
  apply Int32.toInt_inj.mp
  have h2 : n / 2 ^ k ≤ n := Nat.div_le_self _ _
  rw [pk_shr _ _ k hs, nI_toInt h, nI_toInt (by omega), Int.shiftRight_eq_div_pow]
  rfl
theorem pk_loop {σ : Type} (W : Nat → Nat → σ → Prop) (I : Nat → σ → Prop) (e i0 : Nat) (s : σ) (hi : i0 ≤ e) (h0 : I i0 s) (hx : ∀ n s, I e s → W (n + 1) e s)
    (hs : ∀ n i s, i < e → I i s → (∀ s', I (i + 1) s' → W n (i + 1) s') → W (n + 1) i s) : ∃ n, W n i0 s :=
  ⟨e + 1, loop_i W I e hx hs (e + 1) i0 s hi (by omega) h0⟩
theorem ek_v {α : Sort _} {P : α → Prop} {a b : α} (e : a = b) (h : P b) : P a := e ▸ h
theorem ek_if {c d A B : Prop} (e : c ↔ d) (f : d → A) (g : ¬ d → B) : (c → A) ∧ (¬ c → B) :=
  ⟨fun z => f (e.mp z), fun z => g (fun y => z (e.mpr y))⟩
end
section
/-! arithmetic of indices, the relation -/
theorem cv_x8 (y x : Nat) : (8 : Int32) * nI y + nI x = nI (8 * y + x) := by
  show nI 8 * nI y + nI x = _
  rw [pk_mul, nI_add]
theorem cv_x64 (c y x : Nat) : (64 : Int32) * nI c + 8 * nI y + nI x = nI (64 * c + 8 * y + x) := by
  show nI 64 * nI c + nI 8 * nI y + nI x = _
  rw [pk_mul, pk_mul, nI_add, nI_add]
theorem cv_x64i (c i : Nat) : (64 : Int32) * nI c + nI i = nI (64 * c + i) := by
  show nI 64 * nI c + nI i = _
  rw [pk_mul, nI_add]
theorem cv_remI (x y : Int32) : (x - x / y * y).toInt = x.toInt.tmod y.toInt := by
  have a := (x % y).toInt_lt
  have b := (x % y).le_toInt
  rw [Int32.toInt_mod] at a b
  rw [Int32.toInt_sub, Int32.toInt_mul, Int32.toInt_div, Int.bmod_mul_bmod, Int.sub_bmod_bmod, Int.mul_comm, ← Int.tmod_def]
  exact Jvm.Kit.bmod32 b a
theorem cv_rng {x a b : Int32} {p q : Int} (ha : a.toInt = p) (hb : b.toInt = q) (h1 : ¬ x < a) (h2 : x ≤ b) : p ≤ x.toInt ∧ x.toInt ≤ q := by
  rw [Int32.lt_iff_toInt_lt] at h1
  rw [Int32.le_iff_toInt_le] at h2
  omega
theorem cv_upr {f : Nat → Int32} {N : Nat} {lo hi : Int} {k : Nat} {x : Int32} (h : ∀ j, j < N → lo ≤ (f j).toInt ∧ (f j).toInt ≤ hi) (hx : lo ≤ x.toInt ∧ x.toInt ≤ hi) : ∀ j, j < N → lo ≤ (upd f k x j).toInt ∧ (upd f k x j).toInt ≤ hi := by
  intro j hj
  by_cases e : j = k
  · rw [e, pk_us]; exact hx
  · rw [pk_un e]; exact h j hj
theorem cv_np {a b : Int32} (h : ¬ a < b) : b ≤ a := Int32.not_lt.mp h
theorem cv_nq {a b : Int32} (h : ¬ a ≤ b) : b < a := Int32.not_le.mp h
def cv_root : List Nat := [1, 7098, 1925, 6832, 3383, 1728, 6468, 527, 7680, 583, 5756, 849, 4298, 5953, 1213, 7154]
def cv_back : List Nat := [1, 7154, 1213, 5953, 4298, 849, 5756, 583, 7680, 527, 6468, 1728, 3383, 6832, 1925, 7098]
def cv_ag (w : Nat) (r r' : Nat → Int32) : Prop := ∀ j, j % 8 < w → j / 8 < w → r j = r' j
abbrev cv_F (s m w : Nat) (aP aK aO aG aB bR : Nat → Int32) : Prop :=
  (s = 1 ∨ s = 2) ∧ (m = 0 ∨ m = 1) ∧ w ≤ 8 ∧ (∀ j, j < 128 → -20 ≤ (aP j).toInt ∧ (aP j).toInt ≤ 20) ∧
  (∀ j, j < 18 → -9 ≤ (aK j).toInt ∧ (aK j).toInt ≤ 9) ∧
  (∀ j, j < 16 → aG j = nI (cv_root.getD j 0)) ∧ (∀ j, j < 16 → aB j = nI (cv_back.getD j 0)) ∧ cv_ag w aO bR
def i_Rel (k : Nat) (u : SX) (v : SY) : Prop := match u, v with
  | (fs, fm, fc, fw, aP, aK, aO, aE, aH, aS, aR, aL, aT, aU, aN, aG, aB, aW), (gs, gm, gw, bP, bK, bR) =>
    ∃ s m w : Nat, fs = nI s ∧ fm = nI m ∧ fw = nI w ∧ gs = nI s ∧ gm = nI m ∧ gw = nI w ∧ bP = aP ∧ bK = aK ∧ cv_F s m w aP aK aO aG aB bR
theorem i_up {k : Nat} {u : SX} {v : SY} (h : i_Rel k u v) : i_Rel (k + 5) u v := h
section
variable {fs fm fc fw : Int32} {aP aK aO aE aH aS aR aL aT aU aN aG aB aW : Nat → Int32}
variable {gs gm gw : Int32} {bP bK bR : Nat → Int32}
theorem cv_in {k s m w : Nat} (F : cv_F s m w aP aK aO aG aB bR) : i_Rel k (nI s, nI m, fc, nI w, aP, aK, aO, aE, aH, aS, aR, aL, aT, aU, aN, aG, aB, aW) (nI s, nI m, nI w, aP, aK, bR) := by
  unfold i_Rel
  exact ⟨s, m, w, rfl, rfl, rfl, rfl, rfl, rfl, rfl, rfl, F⟩
end
theorem cv_el {k : Nat} {u : SX} {v : SY} {P : SX → SY → Prop} (I : i_Rel k u v) (h : ∀ (s m w : Nat) (fc : Int32) (aP aK aO aE aH aS aR aL aT aU aN aG aB aW bR : Nat → Int32), cv_F s m w aP aK aO aG aB bR → P (nI s, nI m, fc, nI w, aP, aK, aO, aE, aH, aS, aR, aL, aT, aU, aN, aG, aB, aW) (nI s, nI m, nI w, aP, aK, bR)) : P u v := by
  obtain ⟨fs, fm, fc, fw, aP, aK, aO, aE, aH, aS, aR, aL, aT, aU, aN, aG, aB, aW⟩ := u
  obtain ⟨gs, gm, gw, bP, bK, bR⟩ := v
  obtain ⟨s, m, w, rfl, rfl, rfl, rfl, rfl, rfl, rfl, rfl, F⟩ := I
  exact h _ _ _ _ _ _ _ _ _ _ _ _ _ _ _ _ _ _ _ F
end
section
/-! put, kernel, pixel, shape, width, result, way -/
theorem i_vc_put {k : Nat} {u : SX} {v : SY} (I : i_Rel k u v) (hk : k + 5 ≤ 2560) (v1 : Int32) (v2 : Int32) : wpX_put (fun r u' => wpY_put (fun r' v' => r' = r ∧ i_Rel (k + 5) u' v') v v1 v2) u v1 v2 := by
  refine cv_el (P := fun u v => wpX_put (fun r u' => wpY_put (fun r' v' => r' = r ∧ i_Rel (k + 5) u' v') v v1 v2) u v1 v2) I ?_
  intro s m w fc aP aK aO aE aH aS aR aL aT aU aN aG aB aW bR F
  by_cases h0 : v1 < 0
  · exact br_t h0 (br_t h0 ⟨rfl, cv_in F⟩)
  by_cases h1 : (127 : Int32) < v1
  · exact br_f h0 (br_t h1 (br_f h0 (br_t h1 ⟨rfl, cv_in F⟩)))
  by_cases h2 : v2 < (-20 : Int32)
  · exact br_f h0 (br_f h1 (br_t h2 (br_f h0 (br_f h1 (br_t h2 ⟨rfl, cv_in F⟩)))))
  by_cases h3 : v2 ≤ (20 : Int32)
  · obtain ⟨j, hj, rfl⟩ := nI_of2 (M := 127) (n := 127) rfl h0 (cv_np h1)
    have hi : vp_in (nI j) 128 := vp_in_nI (by omega) (by decide)
    exact br_f h0 (br_f h1 (br_f h2 (br_t h3 ⟨hi, nm_e ⟨hi, nm_e (br_f h0 (br_f h1 (br_f h2 (br_t h3 ⟨hi, nm_e ⟨hi, nm_e ⟨rfl, cv_in ⟨F.1, F.2.1, F.2.2.1, cv_upr F.2.2.2.1 (cv_rng rfl rfl h2 h3), F.2.2.2.2⟩⟩⟩⟩))))⟩⟩)))
  · exact br_f h0 (br_f h1 (br_f h2 (br_f h3 (br_f h0 (br_f h1 (br_f h2 (br_f h3 ⟨rfl, cv_in F⟩)))))))
theorem i_vc_kernel {k : Nat} {u : SX} {v : SY} (I : i_Rel k u v) (hk : k + 5 ≤ 2560) (v1 : Int32) (v2 : Int32) : wpX_kernel (fun r u' => wpY_kernel (fun r' v' => r' = r ∧ i_Rel (k + 5) u' v') v v1 v2) u v1 v2 := by
  refine cv_el (P := fun u v => wpX_kernel (fun r u' => wpY_kernel (fun r' v' => r' = r ∧ i_Rel (k + 5) u' v') v v1 v2) u v1 v2) I ?_
  intro s m w fc aP aK aO aE aH aS aR aL aT aU aN aG aB aW bR F
  by_cases h0 : v1 < 0
  · exact br_t h0 (br_t h0 ⟨rfl, cv_in F⟩)
  by_cases h1 : (17 : Int32) < v1
  · exact br_f h0 (br_t h1 (br_f h0 (br_t h1 ⟨rfl, cv_in F⟩)))
  by_cases h2 : v2 < (-9 : Int32)
  · exact br_f h0 (br_f h1 (br_t h2 (br_f h0 (br_f h1 (br_t h2 ⟨rfl, cv_in F⟩)))))
  by_cases h3 : v2 ≤ (9 : Int32)
  · obtain ⟨j, hj, rfl⟩ := nI_of2 (M := 17) (n := 17) rfl h0 (cv_np h1)
    have hi : vp_in (nI j) 18 := vp_in_nI (by omega) (by decide)
    exact br_f h0 (br_f h1 (br_f h2 (br_t h3 ⟨hi, nm_e ⟨hi, nm_e (br_f h0 (br_f h1 (br_f h2 (br_t h3 ⟨hi, nm_e ⟨hi, nm_e ⟨rfl, cv_in ⟨F.1, F.2.1, F.2.2.1, F.2.2.2.1, cv_upr F.2.2.2.2.1 (cv_rng rfl rfl h2 h3), F.2.2.2.2.2⟩⟩⟩⟩))))⟩⟩)))
  · exact br_f h0 (br_f h1 (br_f h2 (br_f h3 (br_f h0 (br_f h1 (br_f h2 (br_f h3 ⟨rfl, cv_in F⟩)))))))
theorem i_vc_pixel {k : Nat} {u : SX} {v : SY} (I : i_Rel k u v) (hk : k + 5 ≤ 2560) (v1 : Int32) : wpX_pixel (fun r => wpY_pixel (fun r' => r' = r ∧ i_Rel (k + 5) u v) v v1) u v1 := by
  refine cv_el (P := fun u v => wpX_pixel (fun r => wpY_pixel (fun r' => r' = r ∧ i_Rel (k + 5) u v) v v1) u v1) I ?_
  intro s m w fc aP aK aO aE aH aS aR aL aT aU aN aG aB aW bR F
  by_cases h0 : v1 < 0
  · exact br_t h0 (br_t h0 ⟨rfl, cv_in F⟩)
  by_cases h1 : v1 ≤ (127 : Int32)
  · obtain ⟨j, hj, rfl⟩ := nI_of2 (M := 127) (n := 127) rfl h0 h1
    have hi : vp_in (nI j) 128 := vp_in_nI (by omega) (by decide)
    exact br_f h0 (br_t h1 ⟨hi, br_f h0 (br_t h1 ⟨hi, rfl, cv_in F⟩)⟩)
  · exact br_f h0 (br_f h1 (br_f h0 (br_f h1 ⟨rfl, cv_in F⟩)))
def cv_w (s m : Nat) : Nat := (5 + 2 * m) / s + 1
section
variable {fs fm fc fw : Int32} {aP aK aO aE aH aS aR aL aT aU aN aG aB aW : Nat → Int32}
variable {gs gm gw : Int32} {bP bK bR : Nat → Int32}
theorem cv_wnX {post : Int32 → Prop} {s m : Nat} (hs : s = 1 ∨ s = 2) (hm : m = 0 ∨ m = 1) (h : post (nI (cv_w s m))) : wpX_widthNow post (nI s, nI m, fc, fw, aP, aK, aO, aE, aH, aS, aR, aL, aT, aU, aN, aG, aB, aW) := by
  rcases hs with rfl | rfl <;> rcases hm with rfl | rfl
  · exact nm_e (br_t rfl (ek_v (P := post) (by decide) h))
  · exact nm_e (br_t rfl (ek_v (P := post) (by decide) h))
  · exact nm_e (br_f (by decide) (ek_v (P := post) (by decide) h))
  · exact nm_e (br_f (by decide) (ek_v (P := post) (by decide) h))
theorem cv_wnY {post : Int32 → Prop} {s m : Nat} (hs : s = 1 ∨ s = 2) (hm : m = 0 ∨ m = 1) (h : post (nI (cv_w s m))) : wpY_widthAfter post (nI s, nI m, gw, bP, bK, bR) := by
  rcases hs with rfl | rfl <;> rcases hm with rfl | rfl
  · exact And.intro (by decide) (ek_v (P := post) (by decide) h)
  · exact And.intro (by decide) (ek_v (P := post) (by decide) h)
  · exact And.intro (by decide) (ek_v (P := post) (by decide) h)
  · exact And.intro (by decide) (ek_v (P := post) (by decide) h)
end
theorem cv_w8 {s m : Nat} (hs : s = 1 ∨ s = 2) (hm : m = 0 ∨ m = 1) : cv_w s m ≤ 8 := by
  rcases hs with rfl | rfl <;> rcases hm with rfl | rfl <;> decide
theorem i_vc_shape {k : Nat} {u : SX} {v : SY} (I : i_Rel k u v) (hk : k + 5 ≤ 2560) (v1 : Int32) (v2 : Int32) : wpX_shape (fun r u' => wpY_shape (fun r' v' => r' = r ∧ i_Rel (k + 5) u' v') v v1 v2) u v1 v2 := by
  refine cv_el (P := fun u v => wpX_shape (fun r u' => wpY_shape (fun r' v' => r' = r ∧ i_Rel (k + 5) u' v') v v1 v2) u v1 v2) I ?_
  intro s m w fc aP aK aO aE aH aS aR aL aT aU aN aG aB aW bR F
  by_cases h0 : v1 < (1 : Int32)
  · exact br_t h0 (br_t h0 ⟨rfl, cv_in F⟩)
  by_cases h1 : (2 : Int32) < v1
  · exact br_f h0 (br_t h1 (br_f h0 (br_t h1 ⟨rfl, cv_in F⟩)))
  by_cases h2 : v2 < (0 : Int32)
  · exact br_f h0 (br_f h1 (br_t h2 (br_f h0 (br_f h1 (br_t h2 ⟨rfl, cv_in F⟩)))))
  by_cases h3 : v2 ≤ (1 : Int32)
  · have r1 := cv_rng (p := 1) (q := 2) rfl rfl h0 (cv_np h1)
    obtain ⟨s', hs', rfl⟩ := nI_of (x := v1) (by rw [Int32.lt_iff_toInt_lt]; show ¬ v1.toInt < 0; omega)
    obtain ⟨m', hm', rfl⟩ := nI_of h2
    have r2 := cv_rng (p := 0) (q := 1) rfl rfl h2 h3
    rw [nI_toInt hs'] at r1
    rw [nI_toInt hm'] at r2
    have es : s' = 1 ∨ s' = 2 := by omega
    have em : m' = 0 ∨ m' = 1 := by omega
    exact br_f h0 (br_f h1 (br_f h2 (br_t h3 (cv_wnX es em (br_f h0 (br_f h1 (br_f h2 (br_t h3 (cv_wnY es em ⟨rfl, cv_in ⟨es, em, F.2.2⟩⟩)))))))))
  · exact br_f h0 (br_f h1 (br_f h2 (br_f h3 (br_f h0 (br_f h1 (br_f h2 (br_f h3 ⟨rfl, cv_in F⟩)))))))
theorem i_vc_width {k : Nat} {u : SX} {v : SY} (I : i_Rel k u v) (hk : k + 5 ≤ 2560) : wpX_width (fun r => wpY_width (fun r' => r' = r ∧ i_Rel (k + 5) u v) v) u := by
  refine cv_el (P := fun u v => wpX_width (fun r => wpY_width (fun r' => r' = r ∧ i_Rel (k + 5) u v) v) u) I ?_
  intro s m w fc aP aK aO aE aH aS aR aL aT aU aN aG aB aW bR F
  exact And.intro rfl (cv_in F)
theorem i_vc_way {k : Nat} {u : SX} {v : SY} (I : i_Rel k u v) (hk : k + 5 ≤ 2560) (v1 : Int32) : wpX_way (fun r u' => wpY_way (fun r' => r' = r ∧ i_Rel (k + 5) u' v) v v1) u v1 := by
  refine cv_el (P := fun u v => wpX_way (fun r u' => wpY_way (fun r' => r' = r ∧ i_Rel (k + 5) u' v) v v1) u v1) I ?_
  intro s m w fc aP aK aO aE aH aS aR aL aT aU aN aG aB aW bR F
  by_cases h0 : v1 < 0
  · exact br_t h0 (br_t h0 ⟨rfl, cv_in F⟩)
  by_cases h1 : v1 ≤ (3 : Int32)
  · exact br_f h0 (br_t h1 (br_f h0 (br_t h1 ⟨rfl, cv_in F⟩)))
  · exact br_f h0 (br_f h1 (br_f h0 (br_f h1 ⟨rfl, cv_in F⟩)))
/-- the answer of result -/
def cv_rs (w : Nat) (r : Nat → Int32) (p q : Int32) : Int32 :=
  if p < 0 then 0 else if nI w ≤ p then 0 else if q < 0 then 0 else if q < nI w then r (8 * q + p).toNatClampNeg else 0
theorem cv_rsI {w : Nat} (hw : w ≤ 8) {p q : Int32} (h0 : ¬ p < 0) (h1 : ¬ nI w ≤ p) (h2 : ¬ q < 0) (h3 : q < nI w) : ∃ x y : Nat, x < w ∧ y < w ∧ p = nI x ∧ q = nI y ∧ 8 * q + p = nI (8 * y + x) := by
  obtain ⟨x, hx, rfl⟩ := nI_of h0
  obtain ⟨y, hy, rfl⟩ := nI_of h2
  rw [nI_leI (by omega) hx] at h1
  rw [nI_ltI hy (by omega)] at h3
  exact ⟨x, y, by omega, h3, rfl, rfl, cv_x8 y x⟩
section
variable {fs fm fc fw : Int32} {aP aK aO aE aH aS aR aL aT aU aN aG aB aW : Nat → Int32}
variable {gs gm gw : Int32} {bP bK bR : Nat → Int32}
theorem cv_resX {post : Int32 → Prop} {w : Nat} (hw : w ≤ 8) {p q : Int32} (h : post (cv_rs w aO p q)) : wpX_result post (fs, fm, fc, nI w, aP, aK, aO, aE, aH, aS, aR, aL, aT, aU, aN, aG, aB, aW) p q := by
  unfold cv_rs at h
  by_cases h0 : p < 0
  · rw [if_pos h0] at h; exact br_t h0 h
  rw [if_neg h0] at h
  by_cases h1 : nI w ≤ p
  · rw [if_pos h1] at h; exact br_f h0 (br_t h1 h)
  rw [if_neg h1] at h
  by_cases h2 : q < 0
  · rw [if_pos h2] at h; exact br_f h0 (br_f h1 (br_t h2 h))
  rw [if_neg h2] at h
  by_cases h3 : q < nI w
  · rw [if_pos h3] at h
    obtain ⟨x, y, hx, hy, e1, e2, e⟩ := cv_rsI hw h0 h1 h2 h3
    exact br_f h0 (br_f h1 (br_f h2 (br_t h3 ⟨pk_in (8 * y + x) 64 (by omega) e, h⟩)))
  · rw [if_neg h3] at h; exact br_f h0 (br_f h1 (br_f h2 (br_f h3 h)))
theorem cv_resY {post : Int32 → Prop} {w : Nat} (hw : w ≤ 8) {p q : Int32} (h : post (cv_rs w bR p q)) : wpY_result post (gs, gm, nI w, bP, bK, bR) p q := by
  unfold cv_rs at h
  by_cases h0 : p < 0
  · rw [if_pos h0] at h; exact br_t h0 h
  rw [if_neg h0] at h
  by_cases h1 : nI w ≤ p
  · rw [if_pos h1] at h; exact br_f h0 (br_t h1 h)
  rw [if_neg h1] at h
  by_cases h2 : q < 0
  · rw [if_pos h2] at h; exact br_f h0 (br_f h1 (br_t h2 h))
  rw [if_neg h2] at h
  by_cases h3 : q < nI w
  · rw [if_pos h3] at h
    obtain ⟨x, y, hx, hy, e1, e2, e⟩ := cv_rsI hw h0 h1 h2 h3
    exact br_f h0 (br_f h1 (br_f h2 (br_t h3 ⟨pk_in (8 * y + x) 64 (by omega) e, h⟩)))
  · rw [if_neg h3] at h; exact br_f h0 (br_f h1 (br_f h2 (br_f h3 h)))
end
theorem cv_rsE {w : Nat} (hw : w ≤ 8) {r r' : Nat → Int32} (h : cv_ag w r r') (p q : Int32) : cv_rs w r p q = cv_rs w r' p q := by
  unfold cv_rs
  by_cases h0 : p < 0
  · rw [if_pos h0, if_pos h0]
  rw [if_neg h0, if_neg h0]
  by_cases h1 : nI w ≤ p
  · rw [if_pos h1, if_pos h1]
  rw [if_neg h1, if_neg h1]
  by_cases h2 : q < 0
  · rw [if_pos h2, if_pos h2]
  rw [if_neg h2, if_neg h2]
  by_cases h3 : q < nI w
  · rw [if_pos h3, if_pos h3]
    obtain ⟨x, y, hx, hy, e1, e2, e⟩ := cv_rsI hw h0 h1 h2 h3
    rw [e, nI_clamp (by omega)]
    exact h _ (by omega) (by omega)
  · rw [if_neg h3, if_neg h3]
theorem cv_rsN {w : Nat} (hw : w ≤ 8) (r : Nat → Int32) {x y : Nat} (hx : x < 8) (hy : y < 8) : cv_rs w r (nI x) (nI y) = if x < w ∧ y < w then r (8 * y + x) else 0 := by
  unfold cv_rs
  rw [if_neg (nI_pos (by omega)), if_neg (nI_pos (by omega))]
  by_cases h1 : x < w
  · rw [if_neg (nI_ge h1 (by omega))]
    by_cases h2 : y < w
    · rw [if_pos (nI_lt h2 (by omega)), if_pos ⟨h1, h2⟩, cv_x8, nI_clamp (by omega)]
    · rw [if_neg (nI_nlt (by omega) (by omega)), if_neg (fun z => h2 z.2)]
  · rw [if_pos (nI_le (by omega) (by omega)), if_neg (fun z => h1 z.1)]
theorem i_vc_result {k : Nat} {u : SX} {v : SY} (I : i_Rel k u v) (hk : k + 5 ≤ 2560) (v1 : Int32) (v2 : Int32) : wpX_result (fun r => wpY_result (fun r' => r' = r ∧ i_Rel (k + 5) u v) v v1 v2) u v1 v2 := by
  refine cv_el (P := fun u v => wpX_result (fun r => wpY_result (fun r' => r' = r ∧ i_Rel (k + 5) u v) v v1 v2) u v1 v2) I ?_
  intro s m w fc aP aK aO aE aH aS aR aL aT aU aN aG aB aW bR F
  exact cv_resX F.2.2.1 (cv_resY F.2.2.1 ⟨(cv_rsE F.2.2.1 F.2.2.2.2.2.2.2 v1 v2).symm, cv_in F⟩)
end
section
/-! folds over the 64 places; fill, take -/
def cv_gf {σ : Type} (st : Nat → σ → σ) : Nat → σ → σ
  | 0, s => s
  | i + 1, s => st i (cv_gf st i s)
theorem cv_skip {σ : Type} {st : Nat → σ → σ} {s : σ} {a : Nat} : ∀ b, a ≤ b → (∀ j, a ≤ j → j < b → ∀ t, st j t = t) → cv_gf st b s = cv_gf st a s := by
  intro b
  induction b with
  | zero =>
    intro h _
    have e : a = 0 := by omega
    rw [e]
  | succ b ih =>
    intro h hs
    by_cases e : a = b + 1
    · rw [e]
    · show st b (cv_gf st b s) = _
      rw [hs b (by omega) (by omega), ih (by omega) (fun j h1 h2 => hs j h1 (by omega))]
theorem cv_gfR {σ τ : Type} {R : σ → τ → Prop} {st : Nat → σ → σ} {st' : Nat → τ → τ} (h : ∀ j s t, R s t → R (st j s) (st' j t)) {s : σ} {t : τ} (h0 : R s t) : ∀ n, R (cv_gf st n s) (cv_gf st' n t)
  | 0 => h0
  | n + 1 => h n _ _ (cv_gfR h h0 n)
theorem cv_gfI {σ : Type} {R : σ → Prop} {st : Nat → σ → σ} (h : ∀ j s, R s → R (st j s)) {s : σ} (h0 : R s) : ∀ n, R (cv_gf st n s)
  | 0 => h0
  | n + 1 => h n _ (cv_gfI h h0 n)
def cv_cut (v : Int32) : Int32 := if -20 ≤ v then (if v ≤ 20 then v else 20) else -20
theorem cv_cutr (v : Int32) : -20 ≤ (cv_cut v).toInt ∧ (cv_cut v).toInt ≤ 20 := by
  unfold cv_cut
  by_cases h0 : (-20 : Int32) ≤ v
  · rw [if_pos h0]
    by_cases h1 : v ≤ 20
    · rw [if_pos h1]
      exact cv_rng (a := -20) (b := 20) rfl rfl (Int32.not_lt.mpr h0) h1
    · rw [if_neg h1]; decide
  · rw [if_neg h0]; decide
section
variable {fs fm fc fw : Int32} {aP aK aO aE aH aS aR aL aT aU aN aG aB aW : Nat → Int32}
variable {gs gm gw : Int32} {bP bK bR : Nat → Int32}
theorem cv_clX {post : Int32 → Prop} {v : Int32} (h : post (cv_cut v)) : wpX_clamp post (fs, fm, fc, fw, aP, aK, aO, aE, aH, aS, aR, aL, aT, aU, aN, aG, aB, aW) v := by
  unfold cv_cut at h
  by_cases h0 : (-20 : Int32) ≤ v
  · rw [if_pos h0] at h
    by_cases h1 : v ≤ 20
    · rw [if_pos h1] at h; exact br_t h0 (br_t h1 h)
    · rw [if_neg h1] at h; exact br_t h0 (br_f h1 h)
  · rw [if_neg h0] at h; exact br_f h0 h
theorem cv_clY {post : Int32 → Prop} {v : Int32} (h : post (cv_cut v)) : wpY_cut post (gs, gm, gw, bP, bK, bR) v := by
  unfold cv_cut at h
  by_cases h0 : (-20 : Int32) ≤ v
  · rw [if_pos h0] at h
    by_cases h1 : v ≤ 20
    · rw [if_pos h1] at h; exact br_t h0 (br_t h1 h)
    · rw [if_neg h1] at h; exact br_t h0 (br_f h1 h)
  · rw [if_neg h0] at h; exact br_f h0 h
end
/-! fill -/
def cv_fst (c : Nat) (a b d e : Int32) (j : Nat) (p : Nat → Int32) : Nat → Int32 :=
  upd p (64 * c + j) (cv_cut (a + b * nI (j % 8) + d * nI (j / 8) + e * nI (j % 8) * nI (j / 8)))
theorem cv_fstE {c : Nat} {a b d e : Int32} {y x : Nat} {p : Nat → Int32} (hx : x < 8) : cv_fst c a b d e (8 * y + x) p = upd p (64 * c + 8 * y + x) (cv_cut (a + b * nI x + d * nI y + e * nI x * nI y)) := by
  unfold cv_fst
  rw [show (8 * y + x) % 8 = x by omega, show (8 * y + x) / 8 = y by omega, Nat.add_assoc]
section
variable {fs fm fc fw : Int32} {aP aK aO aE aH aS aR aL aT aU aN aG aB aW : Nat → Int32}
variable {gs gm gw : Int32} {bP bK bR : Nat → Int32}
theorem cv_fiX {post : Int32 → SX → Prop} {c : Nat} (hc : c < 2) {a b d e : Int32} (h : post 0 (fs, fm, fc, fw, cv_gf (cv_fst c a b d e) 64 aP, aK, aO, aE, aH, aS, aR, aL, aT, aU, aN, aG, aB, aW)) : ∃ n79 : Nat, wX_fill_79 post (nI c) a e b d fs fm fc fw n79 0 aP aK aO aE aH aS aR aL aT aU aN aG aB aW := by
  refine loop_0 (fun n i (s : Nat → Int32) => wX_fill_79 post (nI c) a e b d fs fm fc fw n (nI i) s aK aO aE aH aS aR aL aT aU aN aG aB aW) (fun i s => s = cv_gf (cv_fst c a b d e) (8 * i) aP) 8 aP rfl ?_ ?_
  · intro n s hs
    subst hs
    exact br_t (nI_le (a := 8) (b := 8) (by decide) (by decide)) h
  · intro n y s hy hs IH
    refine br_f (nI_ge (b := 8) hy (by decide)) ?_
    refine loop_0 (fun n' x (t : Nat → Int32) => wX_fill_89 post (wX_fill_79 post (nI c) a e b d fs fm fc fw n) (nI c) a e b d (nI y) fs fm fc fw n' (nI x) t aK aO aE aH aS aR aL aT aU aN aG aB aW) (fun x t => t = cv_gf (cv_fst c a b d e) (8 * y + x) aP) 8 s hs ?_ ?_
    · intro n' t ht
      exact br_t (nI_le (a := 8) (b := 8) (by decide) (by decide)) (nm_r (nI_1 y) (IH t ht))
    · intro n' x t hx ht IH2
      refine br_f (nI_ge (b := 8) hx (by decide)) (cv_clX ?_)
      refine ⟨pk_in (64 * c + 8 * y + x) 128 (by omega) (cv_x64 c y x), nm_r (e' := cv_gf (cv_fst c a b d e) (8 * y + (x + 1)) aP) ?_ (nm_r (nI_1 x) (IH2 _ rfl))⟩
      rw [pk_cl (64 * c + 8 * y + x) (cv_x64 c y x) (by omega), ht]
      exact (cv_fstE hx).symm
theorem cv_fiY {post : Int32 → SY → Prop} {c : Nat} (hc : c < 2) {a b d e : Int32} (h : post 0 (gs, gm, gw, cv_gf (cv_fst c a b d e) 64 bP, bK, bR)) : ∃ n83 : Nat, wY_fill_83 post (nI c) a e b d gs gm gw n83 0 bP bK bR := by
  refine loop_0 (fun n i (s : Nat → Int32) => wY_fill_83 post (nI c) a e b d gs gm gw n (nI i) s bK bR) (fun i s => s = cv_gf (cv_fst c a b d e) i bP) 64 bP rfl ?_ ?_
  · intro n s hs
    subst hs
    exact br_t (nI_le (a := 64) (b := 64) (by decide) (by decide)) h
  · intro n i s hi hs IH
    refine br_f (nI_ge (b := 64) hi (by decide)) ⟨by decide, nm_r (e' := nI (i % 8)) (pk_rem (d := 8) (by omega) (by decide) (by decide)) ⟨by decide, nm_r (e' := nI (i / 8)) (pk_div (d := 8) (by omega) (by decide) (by decide)) (cv_clY ?_)⟩⟩
    refine ⟨pk_in (64 * c + i) 128 (by omega) (cv_x64i c i), nm_r (e' := cv_gf (cv_fst c a b d e) (i + 1) bP) ?_ (nm_r (nI_1 i) (IH _ rfl))⟩
    rw [pk_cl (64 * c + i) (cv_x64i c i) (by omega), hs]
    rfl
end
theorem cv_fir {c : Nat} {a b d e : Int32} {p : Nat → Int32} (h : ∀ j, j < 128 → -20 ≤ (p j).toInt ∧ (p j).toInt ≤ 20) : ∀ n, ∀ j, j < 128 → -20 ≤ (cv_gf (cv_fst c a b d e) n p j).toInt ∧ (cv_gf (cv_fst c a b d e) n p j).toInt ≤ 20 :=
  cv_gfI (R := fun p : Nat → Int32 => ∀ j, j < 128 → -20 ≤ (p j).toInt ∧ (p j).toInt ≤ 20) (fun j s hs => cv_upr hs (cv_cutr _)) h
theorem cv_m10 {a : Nat} (ha : a < 2 ^ 30) : (nI a - 10 : Int32).toInt = (a : Int) - 10 := pk_sub_toInt (b := 10) ha (by decide)
theorem i_vc_fill {k : Nat} {u : SX} {v : SY} (I : i_Rel k u v) (hk : k + 5 ≤ 2560) (v1 : Int32) (v2 : Int32) (v3 : Int32) (v4 : Int32) : wpX_fill (fun r u' => wpY_fill (fun r' v' => r' = r ∧ i_Rel (k + 5) u' v') v v1 v2 v3 v4) u v1 v2 v3 v4 := by
  refine cv_el (P := fun u v => wpX_fill (fun r u' => wpY_fill (fun r' v' => r' = r ∧ i_Rel (k + 5) u' v') v v1 v2 v3 v4) u v1 v2 v3 v4) I ?_
  intro s m w fc aP aK aO aE aH aS aR aL aT aU aN aG aB aW bR F
  refine And.intro (by decide) (nm_e (And.intro (by decide) (nm_e ?_)))
  by_cases h0 : v1 < 0
  · exact br_t h0 (br_t h0 ⟨rfl, cv_in F⟩)
  refine br_f h0 ?_
  by_cases h1 : (1 : Int32) < v1
  · exact br_t h1 (br_f h0 (br_t h1 ⟨rfl, cv_in F⟩))
  refine br_f h1 ?_
  by_cases h2 : v2 < (-20 : Int32)
  · exact br_t h2 (br_f h0 (br_f h1 (br_t h2 ⟨rfl, cv_in F⟩)))
  refine br_f h2 ?_
  by_cases h3 : (20 : Int32) < v2
  · exact br_t h3 (br_f h0 (br_f h1 (br_f h2 (br_t h3 ⟨rfl, cv_in F⟩))))
  refine br_f h3 ?_
  by_cases h4 : v4 < (-3 : Int32)
  · exact br_t h4 (br_f h0 (br_f h1 (br_f h2 (br_f h3 (br_t h4 ⟨rfl, cv_in F⟩)))))
  refine br_f h4 ?_
  by_cases h5 : v4 ≤ (3 : Int32)
  · refine br_t h5 ?_
    by_cases h6 : v3 < (0 : Int32)
    · exact br_t h6 (br_f h0 (br_f h1 (br_f h2 (br_f h3 (br_f h4 (br_t h5 (br_t h6 ⟨rfl, cv_in F⟩)))))))
    refine br_f h6 ?_
    obtain ⟨q, hq, rfl⟩ := nI_of h6
    have e1 : nI q / 100 = nI (q / 100) := pk_div (d := 100) hq (by decide) (by decide)
    have e2 : nI q - nI q / 100 * 100 = nI (q % 100) := pk_rem (d := 100) hq (by decide) (by decide)
    have b1 : (10 : Int32) < nI q / 100 - 10 ↔ (20 : Int32) < nI q / 100 := by
      rw [e1, Int32.lt_iff_toInt_lt, Int32.lt_iff_toInt_lt, cv_m10 (by omega), nI_toInt (by omega)]
      show (10 : Int) < _ ↔ (20 : Int) < _
      omega
    have b2 : nI q - nI q / 100 * 100 - 10 ≤ (10 : Int32) ↔ nI q - nI q / 100 * 100 ≤ (20 : Int32) := by
      rw [e2, Int32.le_iff_toInt_le, Int32.le_iff_toInt_le, cv_m10 (by omega), nI_toInt (by omega)]
      show _ ≤ (10 : Int) ↔ _ ≤ (20 : Int)
      omega
    by_cases h7 : (20 : Int32) < nI q / 100
    · exact br_t (b1.mpr h7) (br_f h0 (br_f h1 (br_f h2 (br_f h3 (br_f h4 (br_t h5 (br_f h6 ⟨by decide, br_t h7 ⟨rfl, cv_in F⟩⟩)))))))
    refine br_f (fun z => h7 (b1.mp z)) ?_
    by_cases h8 : nI q - nI q / 100 * 100 ≤ (20 : Int32)
    · obtain ⟨c, hc, rfl⟩ := nI_of2 (M := 1) (n := 1) rfl h0 (cv_np h1)
      refine br_t (b2.mpr h8) (cv_fiX (by omega) (br_f h0 (br_f h1 (br_f h2 (br_f h3 (br_f h4 (br_t h5 (br_f h6 ⟨by decide, br_f h7 ⟨by decide, br_t h8 ⟨by decide, nm_e ⟨by decide, nm_e (cv_fiY (by omega) ⟨rfl, cv_in ?_⟩)⟩⟩⟩⟩))))))))
      exact ⟨F.1, F.2.1, F.2.2.1, cv_fir F.2.2.2.1 64, F.2.2.2.2⟩
    · exact br_f (fun z => h8 (b2.mp z)) (br_f h0 (br_f h1 (br_f h2 (br_f h3 (br_f h4 (br_t h5 (br_f h6 ⟨by decide, br_f h7 ⟨by decide, br_f h8 ⟨rfl, cv_in F⟩⟩⟩)))))))
  · exact br_f h5 (br_f h0 (br_f h1 (br_f h2 (br_f h3 (br_f h4 (br_f h5 ⟨rfl, cv_in F⟩))))))
/-! take -/
def cv_kst (c : Nat) (vl : Nat → Int32) (j : Nat) (s : (Nat → Int32) × Int32) : (Nat → Int32) × Int32 :=
  (upd s.1 (64 * c + j) (vl j), if s.1 (64 * c + j) = vl j then s.2 else s.2 + 1)
def cv_kv (w : Nat) (r : Nat → Int32) (j : Nat) : Int32 := cv_cut (cv_rs w r (nI (j % 8)) (nI (j / 8)))
theorem cv_kvE {w y x : Nat} {r : Nat → Int32} (hx : x < 8) : cv_kv w r (8 * y + x) = cv_cut (cv_rs w r (nI x) (nI y)) := by
  unfold cv_kv
  rw [show (8 * y + x) % 8 = x by omega, show (8 * y + x) / 8 = y by omega]
section
variable {fs fm fc fw : Int32} {aP aK aO aE aH aS aR aL aT aU aN aG aB aW : Nat → Int32}
variable {gs gm gw : Int32} {bP bK bR : Nat → Int32}
theorem cv_tkX {post : Int32 → SX → Prop} {c w : Nat} (hc : c < 2) (hw : w ≤ 8) (h : post (cv_gf (cv_kst c (cv_kv w aO)) 64 (aP, 0)).2 (fs, fm, fc, nI w, (cv_gf (cv_kst c (cv_kv w aO)) 64 (aP, 0)).1, aK, aO, aE, aH, aS, aR, aL, aT, aU, aN, aG, aB, aW)) : ∃ n16 : Nat, wX_take_16 post (nI c) fs fm fc (nI w) n16 0 0 aP aK aO aE aH aS aR aL aT aU aN aG aB aW := by
  refine loop_0 (fun n i (s : (Nat → Int32) × Int32) => wX_take_16 post (nI c) fs fm fc (nI w) n s.2 (nI i) s.1 aK aO aE aH aS aR aL aT aU aN aG aB aW) (fun i s => s = cv_gf (cv_kst c (cv_kv w aO)) (8 * i) (aP, 0)) 8 (aP, 0) rfl ?_ ?_
  · intro n s hs
    subst hs
    exact br_t (nI_le (a := 8) (b := 8) (by decide) (by decide)) h
  · intro n y s hy hs IH
    refine br_f (nI_ge (b := 8) hy (by decide)) ?_
    refine loop_0 (fun n' x (t : (Nat → Int32) × Int32) => wX_take_25 post (wX_take_16 post (nI c) fs fm fc (nI w) n) (nI c) (nI y) fs fm fc (nI w) n' t.2 (nI x) t.1 aK aO aE aH aS aR aL aT aU aN aG aB aW) (fun x t => t = cv_gf (cv_kst c (cv_kv w aO)) (8 * y + x) (aP, 0)) 8 s hs ?_ ?_
    · intro n' t ht
      exact br_t (nI_le (a := 8) (b := 8) (by decide) (by decide)) (nm_r (nI_1 y) (IH t ht))
    · intro n' x t hx ht IH2
      refine br_f (nI_ge (b := 8) hx (by decide)) (cv_resX hw (cv_clX ?_))
      have hin : vp_in (nI (64 * c + 8 * y + x)) 128 := vp_in_nI (by omega) (by decide)
      refine nm_r (cv_x64 c y x) ⟨hin, ?_⟩
      have key : ∀ z : Int32, z = (if t.1 (64 * c + (8 * y + x)) = cv_kv w aO (8 * y + x) then t.2 else t.2 + 1) → wX_take_82 post (wX_take_16 post (nI c) fs fm fc (nI w) n) (wX_take_25 post (wX_take_16 post (nI c) fs fm fc (nI w) n) (nI c) (nI y) fs fm fc (nI w) n') (nI c) (nI y) (nI x) (cv_cut (cv_rs w aO (nI x) (nI y))) (nI (64 * c + 8 * y + x)) z fs fm fc (nI w) t.1 aK aO aE aH aS aR aL aT aU aN aG aB aW := by
        intro z hz
        refine And.intro hin (nm_r (e' := upd t.1 (64 * c + (8 * y + x)) (cv_kv w aO (8 * y + x))) ?_ (nm_r (nI_1 x) (IH2 (upd t.1 (64 * c + (8 * y + x)) (cv_kv w aO (8 * y + x)), z) ?_)))
        · rw [nI_clamp (by omega), cv_kvE hx, Nat.add_assoc]
        · rw [hz, ht]
          rfl
      by_cases h0 : t.1 (64 * c + (8 * y + x)) = cv_kv w aO (8 * y + x)
      · refine br_t ?_ (key _ (if_pos h0).symm)
        rw [nI_clamp (by omega), ← cv_kvE hx, Nat.add_assoc]
        exact h0
      · refine br_f ?_ (key _ (if_neg h0).symm)
        rw [nI_clamp (by omega), ← cv_kvE hx, Nat.add_assoc]
        exact h0
theorem cv_tkY {post : Int32 → SY → Prop} {c w : Nat} (hc : c < 2) (hw : w ≤ 8) (h : post (cv_gf (cv_kst c (cv_kv w bR)) 64 (bP, 0)).2 (gs, gm, nI w, (cv_gf (cv_kst c (cv_kv w bR)) 64 (bP, 0)).1, bK, bR)) : ∃ n16 : Nat, wY_take_16 post (nI c) gs gm (nI w) n16 0 0 bP bK bR := by
  refine loop_0 (fun n i (s : (Nat → Int32) × Int32) => wY_take_16 post (nI c) gs gm (nI w) n s.2 (nI i) s.1 bK bR) (fun i s => s = cv_gf (cv_kst c (cv_kv w bR)) i (bP, 0)) 64 (bP, 0) rfl ?_ ?_
  · intro n s hs
    subst hs
    exact br_t (nI_le (a := 64) (b := 64) (by decide) (by decide)) h
  · intro n i t hi ht IH
    have d1 : nI i - nI i / 8 * 8 = nI (i % 8) := pk_rem (d := 8) (by omega) (by decide) (by decide)
    have d2 : nI i / 8 = nI (i / 8) := pk_div (d := 8) (by omega) (by decide) (by decide)
    have hin : vp_in (64 * nI c + nI i) 128 := pk_in (64 * c + i) 128 (by omega) (cv_x64i c i)
    refine br_f (nI_ge (b := 64) hi (by decide)) ⟨by decide, by decide, cv_resY hw (cv_clY ?_)⟩
    refine ⟨hin, ?_⟩
    rw [d1, d2]
    have ev : cv_cut (cv_rs w bR (nI (i % 8)) (nI (i / 8))) = cv_kv w bR i := rfl
    rw [ev]
    have key : ∀ z : Int32, z = (if t.1 (64 * c + i) = cv_kv w bR i then t.2 else t.2 + 1) → wY_take_67 post (wY_take_16 post (nI c) gs gm (nI w) n) (nI c) (nI i) (cv_kv w bR i) z gs gm (nI w) t.1 bK bR := by
      intro z hz
      refine And.intro hin (nm_r (e' := upd t.1 (64 * c + i) (cv_kv w bR i)) ?_ (nm_r (nI_1 i) (IH (upd t.1 (64 * c + i) (cv_kv w bR i), z) ?_)))
      · rw [pk_cl (64 * c + i) (cv_x64i c i) (by omega)]
      · rw [hz, ht]
        rfl
    by_cases h0 : t.1 (64 * c + i) = cv_kv w bR i
    · refine br_t ?_ (key _ (if_pos h0).symm)
      rw [pk_cl (64 * c + i) (cv_x64i c i) (by omega)]
      exact h0
    · refine br_f ?_ (key _ (if_neg h0).symm)
      rw [pk_cl (64 * c + i) (cv_x64i c i) (by omega)]
      exact h0
end
theorem cv_tkr {c : Nat} {vl : Nat → Int32} (hv : ∀ j, -20 ≤ (vl j).toInt ∧ (vl j).toInt ≤ 20) {s : (Nat → Int32) × Int32} (h : ∀ j, j < 128 → -20 ≤ (s.1 j).toInt ∧ (s.1 j).toInt ≤ 20) : ∀ n, ∀ j, j < 128 → -20 ≤ ((cv_gf (cv_kst c vl) n s).1 j).toInt ∧ ((cv_gf (cv_kst c vl) n s).1 j).toInt ≤ 20 :=
  cv_gfI (R := fun s : (Nat → Int32) × Int32 => ∀ j, j < 128 → -20 ≤ (s.1 j).toInt ∧ (s.1 j).toInt ≤ 20) (fun j s hs => cv_upr hs (hv j)) h
theorem i_vc_take {k : Nat} {u : SX} {v : SY} (I : i_Rel k u v) (hk : k + 5 ≤ 2560) (v1 : Int32) : wpX_take (fun r u' => wpY_take (fun r' v' => r' = r ∧ i_Rel (k + 5) u' v') v v1) u v1 := by
  refine cv_el (P := fun u v => wpX_take (fun r u' => wpY_take (fun r' v' => r' = r ∧ i_Rel (k + 5) u' v') v v1) u v1) I ?_
  intro s m w fc aP aK aO aE aH aS aR aL aT aU aN aG aB aW bR F
  by_cases h0 : v1 < 0
  · exact br_t h0 (br_t h0 ⟨rfl, cv_in F⟩)
  by_cases h1 : v1 ≤ (1 : Int32)
  · obtain ⟨c, hc, rfl⟩ := nI_of2 (M := 1) (n := 1) rfl h0 h1
    have ek : cv_kv w bR = cv_kv w aO := by
      funext j
      unfold cv_kv
      rw [cv_rsE F.2.2.1 F.2.2.2.2.2.2.2]
    refine br_f h0 (br_t h1 (cv_tkX (by omega) F.2.2.1 (br_f h0 (br_t h1 (cv_tkY (by omega) F.2.2.1 ?_)))))
    rw [ek]
    exact ⟨rfl, cv_in ⟨F.1, F.2.1, F.2.2.1, cv_tkr (fun j => cv_cutr _) F.2.2.2.1 64, F.2.2.2.2⟩⟩
  · exact br_f h0 (br_f h1 (br_f h0 (br_f h1 ⟨rfl, cv_in F⟩)))
end
section
/-! floor, thin, divide, sum, peak -/
theorem cv_gf0 {σ : Type} {st : Nat → σ → σ} {s : σ} : cv_gf st 0 s = s := by
  unfold cv_gf
  exact Eq.refl s
theorem cv_agu {w : Nat} {r r' : Nat → Int32} {j : Nat} {x : Int32} (h : cv_ag w r r') : cv_ag w (upd r j x) (upd r' j x) := by
  intro i h1 h2
  by_cases e : i = j
  · rw [e, pk_us, pk_us]
  · rw [pk_un e, pk_un e]; exact h i h1 h2
def cv_flst (w : Nat) (j : Nat) (s : (Nat → Int32) × Int32) : (Nat → Int32) × Int32 :=
  if j % 8 < w ∧ j / 8 < w ∧ ¬ 0 ≤ s.1 j then (upd s.1 j 0, s.2 + 1) else s
theorem cv_flA {w j : Nat} {s t : (Nat → Int32) × Int32} (h : cv_ag w s.1 t.1 ∧ s.2 = t.2) : cv_ag w (cv_flst w j s).1 (cv_flst w j t).1 ∧ (cv_flst w j s).2 = (cv_flst w j t).2 := by
  unfold cv_flst
  by_cases h1 : j % 8 < w ∧ j / 8 < w
  · have e := h.1 j h1.1 h1.2
    by_cases h0 : 0 ≤ t.1 j
    · rw [if_neg (fun z => z.2.2 (e ▸ h0)), if_neg (fun z => z.2.2 h0)]
      exact h
    · rw [if_pos ⟨h1.1, h1.2, e ▸ h0⟩, if_pos ⟨h1.1, h1.2, h0⟩]
      exact ⟨cv_agu h.1, by show s.2 + 1 = t.2 + 1; rw [h.2]⟩
  · rw [if_neg (fun z => h1 ⟨z.1, z.2.1⟩), if_neg (fun z => h1 ⟨z.1, z.2.1⟩)]
    exact h
section
variable {fs fm fc fw : Int32} {aP aK aO aE aH aS aR aL aT aU aN aG aB aW : Nat → Int32}
variable {gs gm gw : Int32} {bP bK bR : Nat → Int32}
theorem cv_flX {post : Int32 → SX → Prop} {w : Nat} (hw : w ≤ 8) (h : post (cv_gf (cv_flst w) 64 (aO, 0)).2 (fs, fm, fc, nI w, aP, aK, (cv_gf (cv_flst w) 64 (aO, 0)).1, aE, aH, aS, aR, aL, aT, aU, aN, aG, aB, aW)) : wpX_floor post (fs, fm, fc, nI w, aP, aK, aO, aE, aH, aS, aR, aL, aT, aU, aN, aG, aB, aW) := by
  show ∃ n4 : Nat, wX_floor_4 post fs fm fc (nI w) n4 0 0 aP aK aO aE aH aS aR aL aT aU aN aG aB aW
  refine loop_0 (fun n i (s : (Nat → Int32) × Int32) => wX_floor_4 post fs fm fc (nI w) n s.2 (nI i) aP aK s.1 aE aH aS aR aL aT aU aN aG aB aW) (fun i s => s = cv_gf (cv_flst w) (8 * i) (aO, 0)) w (aO, 0) rfl ?_ ?_
  · intro n s hs
    have e : cv_gf (cv_flst w) 64 (aO, 0) = s := by
      rw [hs]
      exact cv_skip 64 (by omega) (fun j h1 h2 t => if_neg (fun z => by omega))
    rw [e] at h
    exact br_t (nI_le (Nat.le_refl w) (by omega)) h
  · intro n y s hy hs IH
    refine br_f (nI_ge hy (by omega)) ?_
    refine loop_0 (fun n' x (t : (Nat → Int32) × Int32) => wX_floor_14 post (wX_floor_4 post fs fm fc (nI w) n) (nI y) fs fm fc (nI w) n' t.2 (nI x) aP aK t.1 aE aH aS aR aL aT aU aN aG aB aW) (fun x t => t = cv_gf (cv_flst w) (8 * y + x) (aO, 0)) w s hs ?_ ?_
    · intro n' t ht
      refine br_t (nI_le (Nat.le_refl w) (by omega)) (nm_r (nI_1 y) (IH t ?_))
      rw [ht]
      exact (cv_skip (8 * (y + 1)) (by omega) (fun j h1 h2 t => if_neg (fun z => by omega))).symm
    · intro n' x t hx ht IH2
      have hin : vp_in (8 * nI y + nI x) 64 := pk_in (8 * y + x) 64 (by omega) (cv_x8 y x)
      have ecl : (8 * nI y + nI x).toNatClampNeg = 8 * y + x := pk_cl (8 * y + x) (cv_x8 y x) (by omega)
      refine br_f (nI_ge hx (by omega)) ⟨hin, ?_⟩
      by_cases h0 : 0 ≤ t.1 (8 * y + x)
      · refine br_t (by rw [ecl]; exact h0) (nm_r (nI_1 x) (IH2 t ?_))
        show t = cv_flst w (8 * y + x) (cv_gf (cv_flst w) (8 * y + x) (aO, 0))
        rw [← ht]
        exact (if_neg (fun z => z.2.2 h0)).symm
      · refine br_f (by rw [ecl]; exact h0) ⟨hin, nm_r (e' := upd t.1 (8 * y + x) 0) (by rw [ecl]) (nm_e (nm_r (nI_1 x) (IH2 (upd t.1 (8 * y + x) 0, t.2 + 1) ?_)))⟩
        show _ = cv_flst w (8 * y + x) (cv_gf (cv_flst w) (8 * y + x) (aO, 0))
        rw [← ht]
        exact (if_pos ⟨by omega, by omega, h0⟩).symm
theorem cv_flY {post : Int32 → SY → Prop} {w : Nat} (hw : w ≤ 8) (h : post (cv_gf (cv_flst w) 64 (bR, 0)).2 (gs, gm, nI w, bP, bK, (cv_gf (cv_flst w) 64 (bR, 0)).1)) : wpY_floor post (gs, gm, nI w, bP, bK, bR) := by
  show ∃ n4 : Nat, wY_floor_4 post gs gm (nI w) n4 0 0 bP bK bR
  refine loop_0 (fun n i (s : (Nat → Int32) × Int32) => wY_floor_4 post gs gm (nI w) n s.2 (nI i) bP bK s.1) (fun i s => s = cv_gf (cv_flst w) i (bR, 0)) 64 (bR, 0) rfl ?_ ?_
  · intro n s hs
    subst hs
    exact br_t (nI_le (a := 64) (b := 64) (by decide) (by decide)) h
  · intro n i t hi ht IH
    have d1 : nI i - nI i / 8 * 8 = nI (i % 8) := pk_rem (d := 8) (by omega) (by decide) (by decide)
    have d2 : nI i / 8 = nI (i / 8) := pk_div (d := 8) (by omega) (by decide) (by decide)
    have hin : vp_in (nI i) 64 := vp_in_nI hi (by decide)
    have ecl : (nI i).toNatClampNeg = i := nI_clamp (by omega)
    have st : cv_gf (cv_flst w) (i + 1) (bR, 0) = cv_flst w i t := by rw [ht]; rfl
    have no : ¬ (i % 8 < w ∧ i / 8 < w ∧ ¬ 0 ≤ t.1 i) → t = cv_gf (cv_flst w) (i + 1) (bR, 0) := fun z => by rw [st]; exact (if_neg z).symm
    refine br_f (nI_ge (b := 64) hi (by decide)) ⟨by decide, pk_le w (i % 8) ?_ ?_ rfl d1⟩
    · intro h1
      exact nm_r (nI_1 i) (IH t (no (fun z => by omega)))
    · intro h1
      refine ⟨by decide, pk_le w (i / 8) ?_ ?_ rfl d2⟩
      · intro h2
        exact nm_r (nI_1 i) (IH t (no (fun z => by omega)))
      · intro h2
        refine ⟨hin, ?_⟩
        by_cases h0 : 0 ≤ t.1 i
        · exact br_t (by rw [ecl]; exact h0) (nm_r (nI_1 i) (IH t (no (fun z => z.2.2 h0))))
        · refine br_f (by rw [ecl]; exact h0) ⟨hin, nm_r (e' := upd t.1 i 0) (by rw [ecl]) (nm_e (nm_r (nI_1 i) (IH (upd t.1 i 0, t.2 + 1) ?_)))⟩
          rw [st]
          exact (if_pos ⟨h1, h2, h0⟩).symm
end
theorem i_vc_floor {k : Nat} {u : SX} {v : SY} (I : i_Rel k u v) (hk : k + 5 ≤ 2560) : wpX_floor (fun r u' => wpY_floor (fun r' v' => r' = r ∧ i_Rel (k + 5) u' v') v) u := by
  refine cv_el (P := fun u v => wpX_floor (fun r u' => wpY_floor (fun r' v' => r' = r ∧ i_Rel (k + 5) u' v') v) u) I ?_
  intro s m w fc aP aK aO aE aH aS aR aL aT aU aN aG aB aW bR F
  have G := cv_gfR (R := fun s t : (Nat → Int32) × Int32 => cv_ag w s.1 t.1 ∧ s.2 = t.2) (st := cv_flst w) (st' := cv_flst w) (fun j s t h => cv_flA h) (s := (aO, 0)) (t := (bR, 0)) ⟨F.2.2.2.2.2.2.2, rfl⟩ 64
  exact cv_flX F.2.2.1 (cv_flY F.2.2.1 ⟨G.2.symm, cv_in ⟨F.1, F.2.1, F.2.2.1, F.2.2.2.1, F.2.2.2.2.1, F.2.2.2.2.2.1, F.2.2.2.2.2.2.1, G.1⟩⟩)
end
section
/-! divide -/
def cv_dst (d : Int32) (j : Nat) (r : Nat → Int32) : Nat → Int32 := upd r j (r j / d)
section
variable {fs fm fc fw : Int32} {aP aK aO aE aH aS aR aL aT aU aN aG aB aW : Nat → Int32}
variable {gs gm gw : Int32} {bP bK bR : Nat → Int32}
theorem cv_dvX {post : Int32 → SX → Prop} {d : Int32} (hd : ¬ d = 0) (h : post fw (fs, fm, fc, fw, aP, aK, cv_gf (cv_dst d) 64 aO, aE, aH, aS, aR, aL, aT, aU, aN, aG, aB, aW)) : ∃ n16 : Nat, wX_divide_16 post d fs fm fc fw n16 0 aP aK aO aE aH aS aR aL aT aU aN aG aB aW := by
  refine loop_0 (fun n i (s : Nat → Int32) => wX_divide_16 post d fs fm fc fw n (nI i) aP aK s aE aH aS aR aL aT aU aN aG aB aW) (fun i s => s = cv_gf (cv_dst d) i aO) 64 aO rfl ?_ ?_
  · intro n s hs
    subst hs
    exact br_t (nI_le (a := 64) (b := 64) (by decide) (by decide)) h
  · intro n i s hi hs IH
    have hin : vp_in (nI i) 64 := vp_in_nI hi (by decide)
    have ecl : (nI i).toNatClampNeg = i := nI_clamp (by omega)
    refine br_f (nI_ge (b := 64) hi (by decide)) ⟨hin, hd, hin, nm_r (e' := cv_gf (cv_dst d) (i + 1) aO) ?_ (nm_r (nI_1 i) (IH _ rfl))⟩
    rw [ecl, hs]
    rfl
theorem cv_dvY {post : Int32 → SY → Prop} {d : Int32} (hd : ¬ d = 0) (h : post gw (gs, gm, gw, bP, bK, cv_gf (cv_dst d) 64 bR)) : ∃ n16 : Nat, wY_divide_16 post d gs gm gw n16 0 bP bK bR := by
  refine loop_0 (fun n i (s : Nat → Int32) => wY_divide_16 post d gs gm gw n (nI i) bP bK s) (fun i s => s = cv_gf (cv_dst d) i bR) 64 bR rfl ?_ ?_
  · intro n s hs
    subst hs
    exact br_t (nI_le (a := 64) (b := 64) (by decide) (by decide)) h
  · intro n i s hi hs IH
    have hin : vp_in (nI i) 64 := vp_in_nI hi (by decide)
    have ecl : (nI i).toNatClampNeg = i := nI_clamp (by omega)
    refine br_f (nI_ge (b := 64) hi (by decide)) ⟨hin, hd, hin, nm_r (e' := cv_gf (cv_dst d) (i + 1) bR) ?_ (nm_r (nI_1 i) (IH _ rfl))⟩
    rw [ecl, hs]
    rfl
end
theorem cv_dvA {d : Int32} {w j : Nat} {r r' : Nat → Int32} (h : cv_ag w r r') : cv_ag w (cv_dst d j r) (cv_dst d j r') := by
  intro i h1 h2
  unfold cv_dst
  by_cases e : i = j
  · subst e
    rw [pk_us, pk_us, h i h1 h2]
  · rw [pk_un e, pk_un e]; exact h i h1 h2
theorem i_vc_divide {k : Nat} {u : SX} {v : SY} (I : i_Rel k u v) (hk : k + 5 ≤ 2560) (v1 : Int32) : wpX_divide (fun r u' => wpY_divide (fun r' v' => r' = r ∧ i_Rel (k + 5) u' v') v v1) u v1 := by
  refine cv_el (P := fun u v => wpX_divide (fun r u' => wpY_divide (fun r' v' => r' = r ∧ i_Rel (k + 5) u' v') v v1) u v1) I ?_
  intro s m w fc aP aK aO aE aH aS aR aL aT aU aN aG aB aW bR F
  by_cases h0 : v1 < (1 : Int32)
  · exact br_t h0 (br_t h0 ⟨rfl, cv_in F⟩)
  by_cases h1 : v1 ≤ (100 : Int32)
  · have hd : ¬ v1 = 0 := fun z => h0 (by rw [z]; decide)
    have G := cv_gfR (R := fun r r' : Nat → Int32 => cv_ag w r r') (st := cv_dst v1) (st' := cv_dst v1) (fun j s t h => cv_dvA h) F.2.2.2.2.2.2.2 64
    exact br_f h0 (br_t h1 (cv_dvX hd (br_f h0 (br_t h1 (cv_dvY hd ⟨rfl, cv_in ⟨F.1, F.2.1, F.2.2.1, F.2.2.2.1, F.2.2.2.2.1, F.2.2.2.2.2.1, F.2.2.2.2.2.2.1, G⟩⟩)))))
  · exact br_f h0 (br_f h1 (br_f h0 (br_f h1 ⟨rfl, cv_in F⟩)))
/-! sum -/
def cv_sst (w : Nat) (r : Nat → Int32) (j : Nat) (n : Int32) : Int32 := n + (if j % 8 < w ∧ j / 8 < w then r j else 0)
section
variable {fs fm fc fw : Int32} {aP aK aO aE aH aS aR aL aT aU aN aG aB aW : Nat → Int32}
variable {gs gm gw : Int32} {bP bK bR : Nat → Int32}
theorem cv_suX {post : Int32 → Prop} {w : Nat} (hw : w ≤ 8) (h : post (cv_gf (cv_sst w aO) 64 0)) : wpX_sum post (fs, fm, fc, nI w, aP, aK, aO, aE, aH, aS, aR, aL, aT, aU, aN, aG, aB, aW) := by
  show ∃ n4 : Nat, wX_sum_4 post fs fm fc (nI w) aP aK aO aE aH aS aR aL aT aU aN aG aB aW n4 0 0
  have no : ∀ j t, ¬ (j % 8 < w ∧ j / 8 < w) → cv_sst w aO j t = t := fun j t z => by
    unfold cv_sst
    rw [if_neg z, Int32.add_zero]
  refine loop_0 (fun n i (s : Int32) => wX_sum_4 post fs fm fc (nI w) aP aK aO aE aH aS aR aL aT aU aN aG aB aW n s (nI i)) (fun i s => s = cv_gf (cv_sst w aO) (8 * i) 0) w 0 rfl ?_ ?_
  · intro n s hs
    have e : cv_gf (cv_sst w aO) 64 0 = s := by
      rw [hs]
      exact cv_skip 64 (by omega) (fun j h1 h2 t => no j t (fun z => by omega))
    rw [e] at h
    exact br_t (nI_le (Nat.le_refl w) (by omega)) h
  · intro n y s hy hs IH
    refine br_f (nI_ge hy (by omega)) ?_
    refine loop_0 (fun n' x (t : Int32) => wX_sum_14 post (wX_sum_4 post fs fm fc (nI w) aP aK aO aE aH aS aR aL aT aU aN aG aB aW n) (nI y) fs fm fc (nI w) aP aK aO aE aH aS aR aL aT aU aN aG aB aW n' t (nI x)) (fun x t => t = cv_gf (cv_sst w aO) (8 * y + x) 0) w s hs ?_ ?_
    · intro n' t ht
      refine br_t (nI_le (Nat.le_refl w) (by omega)) (nm_r (nI_1 y) (IH t ?_))
      rw [ht]
      exact (cv_skip (8 * (y + 1)) (by omega) (fun j h1 h2 t => no j t (fun z => by omega))).symm
    · intro n' x t hx ht IH2
      have hin : vp_in (8 * nI y + nI x) 64 := pk_in (8 * y + x) 64 (by omega) (cv_x8 y x)
      have ecl : (8 * nI y + nI x).toNatClampNeg = 8 * y + x := pk_cl (8 * y + x) (cv_x8 y x) (by omega)
      refine br_f (nI_ge hx (by omega)) ⟨hin, nm_r (e' := cv_gf (cv_sst w aO) (8 * y + (x + 1)) 0) ?_ (nm_r (nI_1 x) (IH2 _ rfl))⟩
      rw [ecl, ht]
      show _ = cv_sst w aO (8 * y + x) (cv_gf (cv_sst w aO) (8 * y + x) 0)
      unfold cv_sst
      rw [if_pos ⟨by omega, by omega⟩]
theorem cv_suY {post : Int32 → Prop} {w : Nat} (hw : w ≤ 8) (h : post (cv_gf (cv_sst w bR) 64 0)) : wpY_sum post (gs, gm, nI w, bP, bK, bR) := by
  show ∃ n4 : Nat, wY_sum_4 post gs gm (nI w) bP bK bR n4 0 0
  refine loop_0 (fun n i (s : Int32) => wY_sum_4 post gs gm (nI w) bP bK bR n s (nI i)) (fun i s => s = cv_gf (cv_sst w bR) i 0) 64 0 rfl ?_ ?_
  · intro n s hs
    subst hs
    exact br_t (nI_le (a := 64) (b := 64) (by decide) (by decide)) h
  · intro n i t hi ht IH
    have d1 : nI i - nI i / 8 * 8 = nI (i % 8) := pk_rem (d := 8) (by omega) (by decide) (by decide)
    have d2 : nI i / 8 = nI (i / 8) := pk_div (d := 8) (by omega) (by decide) (by decide)
    refine br_f (nI_ge (b := 64) hi (by decide)) ⟨by decide, by decide, cv_resY hw (nm_r (e' := cv_gf (cv_sst w bR) (i + 1) 0) ?_ (nm_r (nI_1 i) (IH _ rfl)))⟩
    rw [d1, d2, cv_rsN hw bR (by omega) (by omega), ht, show 8 * (i / 8) + i % 8 = i by omega]
    rfl
end
theorem cv_suA {w : Nat} {r r' : Nat → Int32} (h : cv_ag w r r') (j : Nat) (n : Int32) : cv_sst w r j n = cv_sst w r' j n := by
  unfold cv_sst
  by_cases z : j % 8 < w ∧ j / 8 < w
  · rw [if_pos z, if_pos z, h j z.1 z.2]
  · rw [if_neg z, if_neg z]
theorem i_vc_sum {k : Nat} {u : SX} {v : SY} (I : i_Rel k u v) (hk : k + 5 ≤ 2560) : wpX_sum (fun r => wpY_sum (fun r' => r' = r ∧ i_Rel (k + 5) u v) v) u := by
  refine cv_el (P := fun u v => wpX_sum (fun r => wpY_sum (fun r' => r' = r ∧ i_Rel (k + 5) u v) v) u) I ?_
  intro s m w fc aP aK aO aE aH aS aR aL aT aU aN aG aB aW bR F
  have e : cv_sst w bR = cv_sst w aO := by
    funext j n
    exact (cv_suA F.2.2.2.2.2.2.2 j n).symm
  exact cv_suX F.2.2.1 (cv_suY F.2.2.1 ⟨by rw [e], cv_in F⟩)
end
section
/-! peak -/
def cv_pst (w : Nat) (r : Nat → Int32) (j : Nat) (b : Int32) : Int32 :=
  if j % 8 < w ∧ j / 8 < w then (if b < 0 then nI j else if r j ≤ r b.toNatClampNeg then b else nI j) else b
def cv_pin (w : Nat) (b : Int32) : Prop := b < 0 ∨ ∃ j, j < 64 ∧ j % 8 < w ∧ j / 8 < w ∧ b = nI j
theorem cv_pinS {w : Nat} (hw : w ≤ 8) {r : Nat → Int32} {j : Nat} {b : Int32} (h : cv_pin w b) : cv_pin w (cv_pst w r j b) := by
  unfold cv_pst
  by_cases z : j % 8 < w ∧ j / 8 < w
  · rw [if_pos z]
    have g : cv_pin w (nI j) := Or.inr ⟨j, by omega, z.1, z.2, rfl⟩
    by_cases h0 : b < 0
    · rw [if_pos h0]; exact g
    · rw [if_neg h0]
      by_cases h1 : r j ≤ r b.toNatClampNeg
      · rw [if_pos h1]; exact h
      · rw [if_neg h1]; exact g
  · rw [if_neg z]; exact h
theorem cv_pinV {w : Nat} {b : Int32} (h : cv_pin w b) (h0 : ¬ b < 0) : vp_in b 64 := by
  rcases h with h | ⟨j, hj, _, _, rfl⟩
  · exact absurd h h0
  · exact vp_in_nI hj (by decide)
theorem cv_pinG {w : Nat} (hw : w ≤ 8) {r : Nat → Int32} (n : Nat) : cv_pin w (cv_gf (cv_pst w r) n (-1)) :=
  cv_gfI (R := cv_pin w) (fun j s hs => cv_pinS hw hs) (Or.inl (by decide)) n
section
variable {fs fm fc fw : Int32} {aP aK aO aE aH aS aR aL aT aU aN aG aB aW : Nat → Int32}
variable {gs gm gw : Int32} {bP bK bR : Nat → Int32}
theorem cv_peX {post : Int32 → Prop} {w : Nat} (hw : w ≤ 8) (h : post (cv_gf (cv_pst w aO) 64 (-1))) : wpX_peak post (fs, fm, fc, nI w, aP, aK, aO, aE, aH, aS, aR, aL, aT, aU, aN, aG, aB, aW) := by
  show ∃ n4 : Nat, wX_peak_4 post fs fm fc (nI w) aP aK aO aE aH aS aR aL aT aU aN aG aB aW n4 (-1) 0
  refine loop_0 (fun n i (s : Int32) => wX_peak_4 post fs fm fc (nI w) aP aK aO aE aH aS aR aL aT aU aN aG aB aW n s (nI i)) (fun i s => s = cv_gf (cv_pst w aO) (8 * i) (-1)) w (-1) rfl ?_ ?_
  · intro n s hs
    have e : cv_gf (cv_pst w aO) 64 (-1) = s := by
      rw [hs]
      exact cv_skip 64 (by omega) (fun j h1 h2 t => if_neg (fun z => by omega))
    rw [e] at h
    exact br_t (nI_le (Nat.le_refl w) (by omega)) h
  · intro n y s hy hs IH
    refine br_f (nI_ge hy (by omega)) ?_
    refine loop_0 (fun n' x (t : Int32) => wX_peak_14 post (wX_peak_4 post fs fm fc (nI w) aP aK aO aE aH aS aR aL aT aU aN aG aB aW n) (nI y) fs fm fc (nI w) aP aK aO aE aH aS aR aL aT aU aN aG aB aW n' t (nI x)) (fun x t => t = cv_gf (cv_pst w aO) (8 * y + x) (-1)) w s hs ?_ ?_
    · intro n' t ht
      refine br_t (nI_le (Nat.le_refl w) (by omega)) (nm_r (nI_1 y) (IH t ?_))
      rw [ht]
      exact (cv_skip (8 * (y + 1)) (by omega) (fun j h1 h2 t => if_neg (fun z => by omega))).symm
    · intro n' x t hx ht IH2
      have hin : vp_in (8 * nI y + nI x) 64 := pk_in (8 * y + x) 64 (by omega) (cv_x8 y x)
      have ecl : (8 * nI y + nI x).toNatClampNeg = 8 * y + x := pk_cl (8 * y + x) (cv_x8 y x) (by omega)
      have zz : (8 * y + x) % 8 < w ∧ (8 * y + x) / 8 < w := ⟨by omega, by omega⟩
      have st : cv_gf (cv_pst w aO) (8 * y + (x + 1)) (-1) = (if t < 0 then nI (8 * y + x) else if aO (8 * y + x) ≤ aO t.toNatClampNeg then t else nI (8 * y + x)) := by
        show cv_pst w aO (8 * y + x) (cv_gf (cv_pst w aO) (8 * y + x) (-1)) = _
        rw [← ht]
        exact if_pos zz
      have g46 : nI (8 * y + x) = cv_gf (cv_pst w aO) (8 * y + (x + 1)) (-1) → wX_peak_46 post (wX_peak_4 post fs fm fc (nI w) aP aK aO aE aH aS aR aL aT aU aN aG aB aW n) (wX_peak_14 post (wX_peak_4 post fs fm fc (nI w) aP aK aO aE aH aS aR aL aT aU aN aG aB aW n) (nI y) fs fm fc (nI w) aP aK aO aE aH aS aR aL aT aU aN aG aB aW n') (nI y) (nI x) fs fm fc (nI w) aP aK aO aE aH aS aR aL aT aU aN aG aB aW := fun e => nm_r (cv_x8 y x) (nm_r (nI_1 x) (IH2 _ e))
      refine br_f (nI_ge hx (by omega)) ?_
      by_cases h0 : t < 0
      · exact br_t h0 (g46 (by rw [st, if_pos h0]))
      · have hp : cv_pin w t := by rw [ht]; exact cv_pinG hw _
        refine br_f h0 ⟨hin, cv_pinV hp h0, ?_⟩
        by_cases h1 : aO (8 * y + x) ≤ aO t.toNatClampNeg
        · exact br_t (by rw [ecl]; exact h1) (nm_r (nI_1 x) (IH2 t (by rw [st, if_neg h0, if_pos h1])))
        · exact br_f (by rw [ecl]; exact h1) (g46 (by rw [st, if_neg h0, if_neg h1]))
theorem cv_peY {post : Int32 → Prop} {w : Nat} (hw : w ≤ 8) (h : post (cv_gf (cv_pst w bR) 64 (-1))) : wpY_peak post (gs, gm, nI w, bP, bK, bR) := by
  show ∃ n4 : Nat, wY_peak_4 post gs gm (nI w) bP bK bR n4 (-1) 0
  refine loop_0 (fun n i (s : Int32) => wY_peak_4 post gs gm (nI w) bP bK bR n s (nI i)) (fun i s => s = cv_gf (cv_pst w bR) i (-1)) 64 (-1) rfl ?_ ?_
  · intro n s hs
    subst hs
    exact br_t (nI_le (a := 64) (b := 64) (by decide) (by decide)) h
  · intro n i t hi ht IH
    have d1 : nI i - nI i / 8 * 8 = nI (i % 8) := pk_rem (d := 8) (by omega) (by decide) (by decide)
    have d2 : nI i / 8 = nI (i / 8) := pk_div (d := 8) (by omega) (by decide) (by decide)
    have hin : vp_in (nI i) 64 := vp_in_nI hi (by decide)
    have ecl : (nI i).toNatClampNeg = i := nI_clamp (by omega)
    have st : cv_gf (cv_pst w bR) (i + 1) (-1) = cv_pst w bR i t := by rw [ht]; rfl
    have no : ¬ (i % 8 < w ∧ i / 8 < w) → t = cv_gf (cv_pst w bR) (i + 1) (-1) := fun z => by rw [st]; exact (if_neg z).symm
    refine br_f (nI_ge (b := 64) hi (by decide)) ⟨by decide, pk_le w (i % 8) ?_ ?_ rfl d1⟩
    · intro h1
      exact nm_r (nI_1 i) (IH t (no (fun z => by omega)))
    · intro h1
      refine ⟨by decide, pk_le w (i / 8) ?_ ?_ rfl d2⟩
      · intro h2
        exact nm_r (nI_1 i) (IH t (no (fun z => by omega)))
      · intro h2
        have st2 : cv_gf (cv_pst w bR) (i + 1) (-1) = (if t < 0 then nI i else if bR i ≤ bR t.toNatClampNeg then t else nI i) := by
          rw [st]
          exact if_pos ⟨h1, h2⟩
        by_cases h0 : t < 0
        · exact br_t h0 (nm_r (nI_1 i) (IH (nI i) (by rw [st2, if_pos h0])))
        · have hp : cv_pin w t := by rw [ht]; exact cv_pinG hw _
          refine br_f h0 ⟨hin, cv_pinV hp h0, ?_⟩
          by_cases h3 : bR i ≤ bR t.toNatClampNeg
          · exact br_t (by rw [ecl]; exact h3) (nm_r (nI_1 i) (IH t (by rw [st2, if_neg h0, if_pos h3])))
          · exact br_f (by rw [ecl]; exact h3) (nm_r (nI_1 i) (IH (nI i) (by rw [st2, if_neg h0, if_neg h3])))
end
theorem cv_peA1 {w n : Nat} {r r' : Nat → Int32} (h : cv_ag w r r') {b : Int32} (hp : cv_pin w b) : cv_pst w r n b = cv_pst w r' n b := by
  unfold cv_pst
  by_cases z : n % 8 < w ∧ n / 8 < w
  · rw [if_pos z, if_pos z]
    by_cases h0 : b < 0
    · rw [if_pos h0, if_pos h0]
    · rw [if_neg h0, if_neg h0]
      rcases hp with hp | ⟨j, hj, j1, j2, e⟩
      · exact absurd hp h0
      · have ec : b.toNatClampNeg = j := by rw [e]; exact nI_clamp (by omega)
        rw [ec, h n z.1 z.2, h j j1 j2]
  · rw [if_neg z, if_neg z]
theorem cv_peA {w : Nat} (hw : w ≤ 8) {r r' : Nat → Int32} (h : cv_ag w r r') (n : Nat) : cv_gf (cv_pst w r) n (-1) = cv_gf (cv_pst w r') n (-1) := by
  induction n with
  | zero => rw [cv_gf0, cv_gf0]
  | succ n ih =>
    show cv_pst w r n (cv_gf (cv_pst w r) n (-1)) = cv_pst w r' n (cv_gf (cv_pst w r') n (-1))
    rw [ih]
    exact cv_peA1 h (cv_pinG hw n)
theorem i_vc_peak {k : Nat} {u : SX} {v : SY} (I : i_Rel k u v) (hk : k + 5 ≤ 2560) : wpX_peak (fun r => wpY_peak (fun r' => r' = r ∧ i_Rel (k + 5) u v) v) u := by
  refine cv_el (P := fun u v => wpX_peak (fun r => wpY_peak (fun r' => r' = r ∧ i_Rel (k + 5) u v) v) u) I ?_
  intro s m w fc aP aK aO aE aH aS aR aL aT aU aN aG aB aW bR F
  exact cv_peX F.2.2.1 (cv_peY F.2.2.1 ⟨(cv_peA F.2.2.1 F.2.2.2.2.2.2.2 64).symm, cv_in F⟩)
end
section
/-! thin -/
def cv_mx (a b : Int32) : Int32 := if a ≤ b then b else a
def cv_m4 (r : Nat → Int32) (f : Nat) : Int32 := cv_mx (cv_mx (r f) (r (f + 1))) (cv_mx (r (f + 8)) (r (f + 9)))
def cv_tst (v : Nat) (j : Nat) (r : Nat → Int32) : Nat → Int32 :=
  if j % 8 < v ∧ j / 8 < v then upd r j (cv_m4 r (16 * (j / 8) + 2 * (j % 8))) else r
theorem cv_mxI (a b : Int32) : (cv_mx a b).toInt = if a.toInt ≤ b.toInt then b.toInt else a.toInt := by
  unfold cv_mx
  by_cases h : a ≤ b
  · rw [if_pos h, if_pos (Int32.le_iff_toInt_le.mp h)]
  · rw [if_neg h, if_neg (fun z => h (Int32.le_iff_toInt_le.mpr z))]
theorem cv_mx4 (a b c d : Int32) : cv_mx d (cv_mx c (cv_mx b a)) = cv_mx (cv_mx a b) (cv_mx c d) := by
  apply Int32.toInt_inj.mp
  rw [cv_mxI, cv_mxI, cv_mxI, cv_mxI, cv_mxI, cv_mxI]
  generalize a.toInt = a, b.toInt = b, c.toInt = c, d.toInt = d
  repeat' split
  all_goals omega
theorem cv_x16 (y x : Nat) : (16 : Int32) * nI y + 2 * nI x = nI (16 * y + 2 * x) := by
  show nI 16 * nI y + nI 2 * nI x = _
  rw [pk_mul, pk_mul, nI_add]
section
variable {fs fm fc fw : Int32} {aP aK aO aE aH aS aR aL aT aU aN aG aB aW : Nat → Int32}
variable {gs gm gw : Int32} {bP bK bR : Nat → Int32}
theorem cv_grX {post : Int32 → Prop} {a b : Int32} (h : post (cv_mx a b)) : wpX_greater post (fs, fm, fc, fw, aP, aK, aO, aE, aH, aS, aR, aL, aT, aU, aN, aG, aB, aW) a b := by
  unfold cv_mx at h
  by_cases h0 : a ≤ b
  · rw [if_pos h0] at h; exact br_t h0 h
  · rw [if_neg h0] at h; exact br_f h0 h
theorem cv_thX {post : Int32 → SX → Prop} {w : Nat} (hw : w ≤ 8) (h : post (nI (w / 2)) (fs, fm, fc, nI (w / 2), aP, aK, cv_gf (cv_tst (w / 2)) 64 aO, aE, aH, aS, aR, aL, aT, aU, aN, aG, aB, aW)) : wpX_thin post (fs, fm, fc, nI w, aP, aK, aO, aE, aH, aS, aR, aL, aT, aU, aN, aG, aB, aW) := by
  have ew : nI w >>> ((1 : Int32) &&& 31) = nI (w / 2) := pk_shrN (k := 1) (by omega) _ (by decide)
  generalize hv : w / 2 = v at h ew
  have v4 : v ≤ 4 := by omega
  refine nm_r ew ?_
  refine loop_0 (fun n i (s : Nat → Int32) => wX_thin_9 post (nI v) fs fm fc (nI w) n (nI i) aP aK s aE aH aS aR aL aT aU aN aG aB aW) (fun i s => s = cv_gf (cv_tst v) (8 * i) aO) v aO rfl ?_ ?_
  · intro n s hs
    have e : cv_gf (cv_tst v) 64 aO = s := by
      rw [hs]
      exact cv_skip 64 (by omega) (fun j h1 h2 t => if_neg (fun z => by omega))
    rw [e] at h
    exact br_t (nI_le (Nat.le_refl v) (by omega)) h
  · intro n y s hy hs IH
    refine br_f (nI_ge hy (by omega)) ?_
    refine loop_0 (fun n' x (t : Nat → Int32) => wX_thin_16 post (wX_thin_9 post (nI v) fs fm fc (nI w) n) (nI v) (nI y) fs fm fc (nI w) n' (nI x) aP aK t aE aH aS aR aL aT aU aN aG aB aW) (fun x t => t = cv_gf (cv_tst v) (8 * y + x) aO) v s hs ?_ ?_
    · intro n' t ht
      refine br_t (nI_le (Nat.le_refl v) (by omega)) (nm_r (nI_1 y) (IH t ?_))
      rw [ht]
      exact (cv_skip (8 * (y + 1)) (by omega) (fun j h1 h2 t => if_neg (fun z => by omega))).symm
    · intro n' x t hx ht IH2
      have ecl : (8 * nI y + nI x).toNatClampNeg = 8 * y + x := pk_cl (8 * y + x) (cv_x8 y x) (by omega)
      have e1 : nI (16 * y + 2 * x) + 1 = nI (16 * y + 2 * x + 1) := nI_1 _
      have e8 : nI (16 * y + 2 * x) + 8 = nI (16 * y + 2 * x + 8) := nI_add _ 8
      have e9 : nI (16 * y + 2 * x) + 9 = nI (16 * y + 2 * x + 9) := nI_add _ 9
      refine br_f (nI_ge hx (by omega)) (nm_r (cv_x16 y x) ⟨vp_in_nI (by omega) (by decide), pk_in _ 64 (by omega) e1, cv_grX ⟨pk_in _ 64 (by omega) e8, pk_in _ 64 (by omega) e9, cv_grX (cv_grX ⟨pk_in (8 * y + x) 64 (by omega) (cv_x8 y x), nm_r (e' := cv_gf (cv_tst v) (8 * y + (x + 1)) aO) ?_ (nm_r (nI_1 x) (IH2 _ rfl))⟩)⟩⟩)
      rw [ecl, nI_clamp (by omega), pk_cl _ e1 (by omega), pk_cl _ e8 (by omega), pk_cl _ e9 (by omega)]
      show _ = cv_tst v (8 * y + x) (cv_gf (cv_tst v) (8 * y + x) aO)
      rw [← ht]
      unfold cv_tst
      rw [if_pos ⟨by omega, by omega⟩, show (8 * y + x) % 8 = x by omega, show (8 * y + x) / 8 = y by omega]
      rfl
theorem cv_gY1 {post : Int32 → Prop} {p q : Int32} {n k j : Nat} {mo : Int32} (hk : k < 4) (hj : j < 64) (e : 8 * (q + nI k / 2) + p + (nI k - nI k / 2 * 2) = nI j) (h : wY_greatestOf_15 post p q gs gm gw bP bK bR n (cv_mx (bR j) mo) (nI (k + 1))) : wY_greatestOf_15 post p q gs gm gw bP bK bR (n + 1) mo (nI k) := by
  have ecl : (8 * (q + nI k / 2) + p + (nI k - nI k / 2 * 2)).toNatClampNeg = j := pk_cl j e (by omega)
  refine br_f (nI_ge (b := 4) hk (by decide)) ⟨by decide, by decide, pk_in j 64 hj e, nm_r (e' := bR j) (by rw [ecl]) ?_⟩
  unfold cv_mx at h
  by_cases h0 : bR j ≤ mo
  · rw [if_pos h0] at h; exact br_t h0 (nm_r (nI_1 k) h)
  · rw [if_neg h0] at h; exact br_f h0 (nm_r (nI_1 k) h)
theorem cv_gY {post : Int32 → Prop} {x y : Nat} (hx : x < 4) (hy : y < 4) (h : post (cv_m4 bR (16 * y + 2 * x))) : wpY_greatestOf post (gs, gm, gw, bP, bK, bR) (2 * nI x) (2 * nI y) := by
  have e0 : (8 : Int32) * (2 * nI y) + 2 * nI x = nI (16 * y + 2 * x) := by
    show nI 8 * (nI 2 * nI y) + nI 2 * nI x = _
    rw [pk_mul, pk_mul, pk_mul, nI_add]
    exact congrArg nI (by omega)
  have e1 : (8 : Int32) * (2 * nI y + nI 1 / 2) + 2 * nI x + (nI 1 - nI 1 / 2 * 2) = nI (16 * y + 2 * x + 1) := by
    rw [show nI 1 / 2 = nI 0 from by decide, show nI 1 - nI 0 * 2 = nI 1 from by decide]
    show nI 8 * (nI 2 * nI y + nI 0) + nI 2 * nI x + nI 1 = _
    rw [pk_mul, nI_add, pk_mul, pk_mul, nI_add, nI_add]
    exact congrArg nI (by omega)
  have e2 : (8 : Int32) * (2 * nI y + nI 2 / 2) + 2 * nI x + (nI 2 - nI 2 / 2 * 2) = nI (16 * y + 2 * x + 8) := by
    rw [show nI 2 / 2 = nI 1 from by decide, show nI 2 - nI 1 * 2 = nI 0 from by decide]
    show nI 8 * (nI 2 * nI y + nI 1) + nI 2 * nI x + nI 0 = _
    rw [pk_mul, nI_add, pk_mul, pk_mul, nI_add, nI_add]
    exact congrArg nI (by omega)
  have e3 : (8 : Int32) * (2 * nI y + nI 3 / 2) + 2 * nI x + (nI 3 - nI 3 / 2 * 2) = nI (16 * y + 2 * x + 9) := by
    rw [show nI 3 / 2 = nI 1 from by decide, show nI 3 - nI 1 * 2 = nI 1 from by decide]
    show nI 8 * (nI 2 * nI y + nI 1) + nI 2 * nI x + nI 1 = _
    rw [pk_mul, nI_add, pk_mul, pk_mul, nI_add, nI_add]
    exact congrArg nI (by omega)
  refine And.intro (pk_in (16 * y + 2 * x) 64 (by omega) e0) (nm_r (e' := bR (16 * y + 2 * x)) (by rw [pk_cl _ e0 (by omega)]) ⟨4, ?_⟩)
  refine cv_gY1 (k := 1) (by decide) (by omega) e1 (cv_gY1 (k := 2) (by decide) (by omega) e2 (cv_gY1 (k := 3) (by decide) (by omega) e3 ?_))
  refine br_t (by decide) ?_
  rw [cv_mx4]
  exact h
theorem cv_thY {post : Int32 → SY → Prop} {w : Nat} (hw : w ≤ 8) (h : post (nI (w / 2)) (gs, gm, nI (w / 2), bP, bK, cv_gf (cv_tst (w / 2)) 64 bR)) : wpY_thin post (gs, gm, nI w, bP, bK, bR) := by
  have ew : nI w / 2 = nI (w / 2) := pk_div (d := 2) (by omega) (by decide) (by decide)
  generalize hv : w / 2 = v at h ew
  have v4 : v ≤ 4 := by omega
  refine And.intro (by decide) (nm_r ew ?_)
  refine loop_0 (fun n i (s : Nat → Int32) => wY_thin_12 post gs gm (nI v) n (nI i) bP bK s) (fun i s => s = cv_gf (cv_tst v) (8 * i) bR) v bR rfl ?_ ?_
  · intro n s hs
    have e : cv_gf (cv_tst v) 64 bR = s := by
      rw [hs]
      exact cv_skip 64 (by omega) (fun j h1 h2 t => if_neg (fun z => by omega))
    rw [e] at h
    exact br_t (nI_le (Nat.le_refl v) (by omega)) h
  · intro n y s hy hs IH
    refine br_f (nI_ge hy (by omega)) ?_
    refine loop_0 (fun n' x (t : Nat → Int32) => wY_thin_22 post (wY_thin_12 post gs gm (nI v) n) (nI y) gs gm (nI v) n' (nI x) bP bK t) (fun x t => t = cv_gf (cv_tst v) (8 * y + x) bR) v s hs ?_ ?_
    · intro n' t ht
      refine br_t (nI_le (Nat.le_refl v) (by omega)) (nm_r (nI_1 y) (IH t ?_))
      rw [ht]
      exact (cv_skip (8 * (y + 1)) (by omega) (fun j h1 h2 t => if_neg (fun z => by omega))).symm
    · intro n' x t hx ht IH2
      have ecl : (8 * nI y + nI x).toNatClampNeg = 8 * y + x := pk_cl (8 * y + x) (cv_x8 y x) (by omega)
      refine br_f (nI_ge hx (by omega)) (cv_gY (by omega) (by omega) ⟨pk_in (8 * y + x) 64 (by omega) (cv_x8 y x), nm_r (e' := cv_gf (cv_tst v) (8 * y + (x + 1)) bR) ?_ (nm_r (nI_1 x) (IH2 _ rfl))⟩)
      rw [ecl]
      show _ = cv_tst v (8 * y + x) (cv_gf (cv_tst v) (8 * y + x) bR)
      rw [← ht]
      unfold cv_tst
      rw [if_pos ⟨by omega, by omega⟩, show (8 * y + x) % 8 = x by omega, show (8 * y + x) / 8 = y by omega]
end
theorem cv_thA {v w j : Nat} (hv : 2 * v ≤ w) (hw : w ≤ 8) {r r' : Nat → Int32} (h : cv_ag w r r') : cv_ag w (cv_tst v j r) (cv_tst v j r') := by
  unfold cv_tst
  by_cases z : j % 8 < v ∧ j / 8 < v
  · rw [if_pos z, if_pos z]
    have e : cv_m4 r (16 * (j / 8) + 2 * (j % 8)) = cv_m4 r' (16 * (j / 8) + 2 * (j % 8)) := by
      unfold cv_m4
      rw [h _ (by omega) (by omega), h (16 * (j / 8) + 2 * (j % 8) + 1) (by omega) (by omega), h (16 * (j / 8) + 2 * (j % 8) + 8) (by omega) (by omega), h (16 * (j / 8) + 2 * (j % 8) + 9) (by omega) (by omega)]
    rw [e]
    exact cv_agu h
  · rw [if_neg z, if_neg z]; exact h
theorem cv_agl {w v : Nat} (hv : v ≤ w) {r r' : Nat → Int32} (h : cv_ag w r r') : cv_ag v r r' := fun j h1 h2 => h j (by omega) (by omega)
theorem i_vc_thin {k : Nat} {u : SX} {v : SY} (I : i_Rel k u v) (hk : k + 5 ≤ 2560) : wpX_thin (fun r u' => wpY_thin (fun r' v' => r' = r ∧ i_Rel (k + 5) u' v') v) u := by
  refine cv_el (P := fun u v => wpX_thin (fun r u' => wpY_thin (fun r' v' => r' = r ∧ i_Rel (k + 5) u' v') v) u) I ?_
  intro s m w fc aP aK aO aE aH aS aR aL aT aU aN aG aB aW bR F
  have hw := F.2.2.1
  have G := cv_gfR (R := fun r r' : Nat → Int32 => cv_ag w r r') (st := cv_tst (w / 2)) (st' := cv_tst (w / 2)) (fun j s t h => cv_thA (by omega) hw h) F.2.2.2.2.2.2.2 64
  exact cv_thX hw (cv_thY hw ⟨rfl, cv_in ⟨F.1, F.2.1, by omega, F.2.2.2.1, F.2.2.2.2.1, F.2.2.2.2.2.1, F.2.2.2.2.2.2.1, cv_agl (by omega) G⟩⟩)
end
section
/-! the sum of the reference, its move; windows -/
def cv_pp (p : Nat → Int32) (c X Y : Nat) : Int32 := if 1 ≤ X ∧ X ≤ 8 ∧ 1 ≤ Y ∧ Y ≤ 8 then p (64 * c + 8 * (Y - 1) + (X - 1)) else 0
def cv_t (p k : Nat → Int32) (s m x y j : Nat) : Int32 := k j * cv_pp p (j / 9) (s * x + j % 3 + 1 - m) (s * y + j % 9 / 3 + 1 - m)
def cv_sum (f : Nat → Int32) : Nat → Int32
  | 0 => 0
  | n + 1 => cv_sum f n + f n
def cv_R (p k : Nat → Int32) (s m x y : Nat) : Int32 := cv_sum (cv_t p k s m x y) 18
theorem cv_l8 {p : Int32} : (8 : Int32) ≤ p ↔ 8 ≤ p.toInt := Int32.le_iff_toInt_le
theorem cv_l8' {p : Int32} : p < (8 : Int32) ↔ p.toInt < 8 := Int32.lt_iff_toInt_lt
theorem cv_l7 {p : Int32} : (7 : Int32) < p ↔ 7 < p.toInt := Int32.lt_iff_toInt_lt
theorem cv_l7' {p : Int32} : p ≤ (7 : Int32) ↔ p.toInt ≤ 7 := Int32.le_iff_toInt_le
theorem cv_l0 {p : Int32} : p < (0 : Int32) ↔ p.toInt < 0 := Int32.lt_iff_toInt_lt
section
variable {fs fm fc fw : Int32} {aP aK aO aE aH aS aR aL aT aU aN aG aB aW : Nat → Int32}
variable {gs gm gw : Int32} {bP bK bR : Nat → Int32}
theorem cv_atX {post : Int32 → Prop} {c : Nat} (X Y : Nat) (hc : c < 2) (hX : X < 1000) (hY : Y < 1000) {p q : Int32} (e1 : p.toInt = (X : Int) - 1) (e2 : q.toInt = (Y : Int) - 1) (h : post (cv_pp aP c X Y)) : wpX_at post (fs, fm, fc, fw, aP, aK, aO, aE, aH, aS, aR, aL, aT, aU, aN, aG, aB, aW) (nI c) p q := by
  unfold cv_pp at h
  by_cases z : 1 ≤ X ∧ X ≤ 8 ∧ 1 ≤ Y ∧ Y ≤ 8
  · rw [if_pos z] at h
    have ep : p = nI (X - 1) := Int32.toInt_inj.mp (by rw [e1, nI_toInt (by omega)]; omega)
    have eq : q = nI (Y - 1) := Int32.toInt_inj.mp (by rw [e2, nI_toInt (by omega)]; omega)
    rw [ep, eq]
    refine br_f (nI_pos (by omega)) (br_f (nI_ge (b := 8) (by omega) (by decide)) (br_f (nI_pos (by omega)) (br_t (nI_lt (b := 8) (by omega) (by decide)) ⟨pk_in (64 * c + 8 * (Y - 1) + (X - 1)) 128 (by omega) (cv_x64 c _ _), ?_⟩)))
    rw [pk_cl _ (cv_x64 c (Y - 1) (X - 1)) (by omega)]
    exact h
  · rw [if_neg z] at h
    by_cases h0 : p < 0
    · exact br_t h0 h
    by_cases h1 : (8 : Int32) ≤ p
    · exact br_f h0 (br_t h1 h)
    by_cases h2 : q < 0
    · exact br_f h0 (br_f h1 (br_t h2 h))
    by_cases h3 : q < (8 : Int32)
    · exfalso
      rw [cv_l0] at h0 h2
      rw [cv_l8] at h1
      rw [cv_l8'] at h3
      omega
    · exact br_f h0 (br_f h1 (br_f h2 (br_f h3 h)))
theorem cv_atY {post : Int32 → Prop} {c : Nat} (X Y : Nat) (hc : c < 2) (hX : X < 1000) (hY : Y < 1000) {p q : Int32} (e1 : p.toInt = (X : Int) - 1) (e2 : q.toInt = (Y : Int) - 1) (h : post (cv_pp bP c X Y)) : wpY_pixelAt post (gs, gm, gw, bP, bK, bR) (nI c) p q := by
  unfold cv_pp at h
  by_cases z : 1 ≤ X ∧ X ≤ 8 ∧ 1 ≤ Y ∧ Y ≤ 8
  · rw [if_pos z] at h
    have ep : p = nI (X - 1) := Int32.toInt_inj.mp (by rw [e1, nI_toInt (by omega)]; omega)
    have eq : q = nI (Y - 1) := Int32.toInt_inj.mp (by rw [e2, nI_toInt (by omega)]; omega)
    rw [ep, eq]
    refine br_f (nI_pos (by omega)) (br_f (nI_nlt (a := 7) (by omega) (by decide)) (br_f (nI_pos (by omega)) (br_t (nI_le (b := 7) (by omega) (by decide)) ⟨pk_in (64 * c + 8 * (Y - 1) + (X - 1)) 128 (by omega) (cv_x64 c _ _), ?_⟩)))
    rw [pk_cl _ (cv_x64 c (Y - 1) (X - 1)) (by omega)]
    exact h
  · rw [if_neg z] at h
    by_cases h0 : p < 0
    · exact br_t h0 h
    by_cases h1 : (7 : Int32) < p
    · exact br_f h0 (br_t h1 h)
    by_cases h2 : q < 0
    · exact br_f h0 (br_f h1 (br_t h2 h))
    by_cases h3 : q ≤ (7 : Int32)
    · exfalso
      rw [cv_l0] at h0 h2
      rw [cv_l7] at h1
      rw [cv_l7'] at h3
      omega
    · exact br_f h0 (br_f h1 (br_f h2 (br_f h3 h)))
end
theorem cv_s14 {s x : Nat} (hs : s = 1 ∨ s = 2) (hx : x < 8) : s * x ≤ 14 := by
  rcases hs with rfl | rfl <;> omega
section
variable {fs fm fc fw : Int32} {aP aK aO aE aH aS aR aL aT aU aN aG aB aW : Nat → Int32}
variable {gs gm gw : Int32} {bP bK bR : Nat → Int32}
theorem cv_prY {post : Int32 → Prop} {s m x y : Nat} (hs : s = 1 ∨ s = 2) (hm : m = 0 ∨ m = 1) (hx : x < 8) (hy : y < 8) (h : post (cv_R bP bK s m x y)) : wpY_product post (nI s, nI m, gw, bP, bK, bR) (nI x) (nI y) := by
  have sx := cv_s14 hs hx
  have sy := cv_s14 hs hy
  show ∃ n5 : Nat, wY_product_5 post (nI x) (nI y) (nI s) (nI m) gw bP bK bR n5 0 0
  refine loop_0 (fun n i (t : Int32) => wY_product_5 post (nI x) (nI y) (nI s) (nI m) gw bP bK bR n t (nI i)) (fun i t => t = cv_sum (cv_t bP bK s m x y) i) 18 0 rfl ?_ ?_
  · intro n t ht
    subst ht
    exact br_t (nI_le (a := 18) (b := 18) (by decide) (by decide)) h
  · intro n i t hi ht IH
    have d1 : nI i / 9 = nI (i / 9) := pk_div (d := 9) (by omega) (by decide) (by decide)
    have d2 : nI i - nI i / 3 * 3 = nI (i % 3) := pk_rem (d := 3) (by omega) (by decide) (by decide)
    have d3 : (nI i - nI i / 9 * 9) / 3 = nI (i % 9 / 3) := by
      rw [show nI i - nI i / 9 * 9 = nI (i % 9) from pk_rem (d := 9) (by omega) (by decide) (by decide)]
      exact pk_div (d := 3) (by omega) (by decide) (by decide)
    have hin : vp_in (nI i) 18 := vp_in_nI hi (by decide)
    have e1 : (nI s * nI x + nI (i % 3) - nI m).toInt = ((s * x + i % 3 + 1 - m : Nat) : Int) - 1 := by
      rw [pk_mul, nI_add, pk_sub_toInt (by omega) (by omega)]
      omega
    have e2 : (nI s * nI y + nI (i % 9 / 3) - nI m).toInt = ((s * y + i % 9 / 3 + 1 - m : Nat) : Int) - 1 := by
      rw [pk_mul, nI_add, pk_sub_toInt (by omega) (by omega)]
      omega
    refine br_f (nI_ge (b := 18) hi (by decide)) ⟨by decide, nm_r d1 ⟨by decide, nm_r d2 ⟨by decide, by decide, nm_r d3 ⟨hin, cv_atY (s * x + i % 3 + 1 - m) (s * y + i % 9 / 3 + 1 - m) (by omega) (by omega) (by omega) e1 e2 (nm_r (e' := cv_sum (cv_t bP bK s m x y) (i + 1)) ?_ (nm_r (nI_1 i) (IH _ rfl)))⟩⟩⟩⟩
    rw [nI_clamp (by omega), ht]
    rfl
theorem cv_mvY {post : Int32 → SY → Prop} {s m : Nat} (hs : s = 1 ∨ s = 2) (hm : m = 0 ∨ m = 1) (H : ∀ r : Nat → Int32, (∀ j, j % 8 < cv_w s m → j / 8 < cv_w s m → r j = cv_R bP bK s m (j % 8) (j / 8)) → post (nI (cv_w s m)) (nI s, nI m, nI (cv_w s m), bP, bK, r)) : wpY_move post (nI s, nI m, gw, bP, bK, bR) := by
  unfold wpY_move
  dsimp only
  refine cv_wnY hs hm ?_
  have hw := cv_w8 hs hm
  generalize cv_w s m = w at H hw
  refine loop_0 (fun n y (r : Nat → Int32) => wY_move_10 post (nI s) (nI m) (nI w) n (nI y) bP bK r) (fun y r => ∀ j, j % 8 < w → j / 8 < y → r j = cv_R bP bK s m (j % 8) (j / 8)) w bR (fun j _ h => absurd h (Nat.not_lt_zero _)) ?_ ?_
  · intro n r hr
    exact br_t (nI_le (Nat.le_refl w) (by omega)) (H r hr)
  · intro n y r hy hr IH
    refine br_f (nI_ge hy (by omega)) ?_
    refine loop_0 (fun n' x (r : Nat → Int32) => wY_move_20 post (wY_move_10 post (nI s) (nI m) (nI w) n) (nI y) (nI s) (nI m) (nI w) n' (nI x) bP bK r) (fun x r => ∀ j, j % 8 < w → (j / 8 < y ∨ (j / 8 = y ∧ j % 8 < x)) → r j = cv_R bP bK s m (j % 8) (j / 8)) w r (fun j h1 h2 => hr j h1 (by omega)) ?_ ?_
    · intro n' t ht
      exact br_t (nI_le (Nat.le_refl w) (by omega)) (nm_r (nI_1 y) (IH t (fun j h1 h2 => ht j h1 (by omega))))
    · intro n' x t hx ht IH2
      have ecl : (8 * nI y + nI x).toNatClampNeg = 8 * y + x := pk_cl (8 * y + x) (cv_x8 y x) (by omega)
      refine br_f (nI_ge hx (by omega)) (cv_prY hs hm (by omega) (by omega) ⟨pk_in (8 * y + x) 64 (by omega) (cv_x8 y x), nm_r (e' := upd t (8 * y + x) (cv_R bP bK s m x y)) (by rw [ecl]) (nm_r (nI_1 x) (IH2 _ ?_))⟩)
      intro j h1 h2
      by_cases e : j = 8 * y + x
      · rw [e, pk_us, show (8 * y + x) % 8 = x by omega, show (8 * y + x) / 8 = y by omega]
      · rw [pk_un e]
        exact ht j h1 (by omega)
end
/-! cells filled one behind another -/
def cv_fl (lo n : Nat) (V old t : Nat → Int32) : Prop := ∀ i, t i = if lo ≤ i ∧ i < lo + n then V (i - lo) else old i
theorem cv_fl0 {lo : Nat} {V old : Nat → Int32} : cv_fl lo 0 V old old := by
  intro i
  rw [if_neg (by omega)]
theorem cv_flS {lo n : Nat} {V old t : Nat → Int32} (h : cv_fl lo n V old t) {x : Int32} (hx : x = V n) : cv_fl lo (n + 1) V old (upd t (lo + n) x) := by
  intro i
  by_cases e : i = lo + n
  · rw [e, pk_us, if_pos (by omega), hx, Nat.add_sub_cancel_left]
  · rw [pk_un e, h i]
    by_cases z : lo ≤ i ∧ i < lo + n
    · rw [if_pos z, if_pos (by omega)]
    · rw [if_neg z, if_neg (by omega)]
theorem cv_fli {lo n : Nat} {V old t : Nat → Int32} (h : cv_fl lo n V old t) {k : Nat} (hk : k < n) : t (lo + k) = V k := by
  rw [h (lo + k), if_pos (by omega), Nat.add_sub_cancel_left]
theorem cv_flo {lo n : Nat} {V old t : Nat → Int32} (h : cv_fl lo n V old t) {i : Nat} (hi : i < lo ∨ lo + n ≤ i) : t i = old i := by
  rw [h i, if_neg (by omega)]
/-! windows -/
theorem cv_ro (a b c : Int32) : a - b + c = a + c - b := by grind
section
variable {fs fm fc fw : Int32} {aP aK aO aE aH aS aR aL aT aU aN aG aB aW : Nat → Int32}
variable {gs gm gw : Int32} {bP bK bR : Nat → Int32}
theorem cv_stX {post : SX → Prop} {s m x y a : Nat} (hs : s = 1 ∨ s = 2) (hm : m = 0 ∨ m = 1) (hx : x < 8) (hy : y < 8) (ha : a < 64) (H : ∀ t, cv_fl (18 * a) 18 (fun k => cv_pp aP (k / 9) (s * x + k % 3 + 1 - m) (s * y + k % 9 / 3 + 1 - m)) aW t → post (fs, nI m, fc, fw, aP, aK, aO, aE, aH, aS, aR, aL, aT, aU, aN, aG, aB, t)) : wpX_stretch post (fs, nI m, fc, fw, aP, aK, aO, aE, aH, aS, aR, aL, aT, aU, aN, aG, aB, aW) (nI (18 * a)) (nI s * nI x - nI m) (nI s * nI y - nI m) := by
  have sx := cv_s14 hs hx
  have sy := cv_s14 hs hy
  show ∃ n3 : Nat, wX_stretch_3 post (nI (18 * a)) (nI s * nI x - nI m) (nI s * nI y - nI m) fs (nI m) fc fw n3 0 aP aK aO aE aH aS aR aL aT aU aN aG aB aW
  refine loop_0 (fun n c (t : Nat → Int32) => wX_stretch_3 post (nI (18 * a)) (nI s * nI x - nI m) (nI s * nI y - nI m) fs (nI m) fc fw n (nI c) aP aK aO aE aH aS aR aL aT aU aN aG aB t) (fun c t => cv_fl (18 * a) (9 * c) (fun k => cv_pp aP (k / 9) (s * x + k % 3 + 1 - m) (s * y + k % 9 / 3 + 1 - m)) aW t) 2 aW cv_fl0 ?_ ?_
  · intro n t ht
    exact br_t (nI_le (a := 2) (b := 2) (by decide) (by decide)) (H t ht)
  · intro n c t hc ht IH
    refine br_f (nI_ge (b := 2) hc (by decide)) ?_
    refine loop_0 (fun n' k (t : Nat → Int32) => wX_stretch_12 post (wX_stretch_3 post (nI (18 * a)) (nI s * nI x - nI m) (nI s * nI y - nI m) fs (nI m) fc fw n) (nI (18 * a)) (nI s * nI x - nI m) (nI s * nI y - nI m) (nI c) fs (nI m) fc fw n' (nI k) aP aK aO aE aH aS aR aL aT aU aN aG aB t) (fun k t => cv_fl (18 * a) (9 * c + k) (fun k => cv_pp aP (k / 9) (s * x + k % 3 + 1 - m) (s * y + k % 9 / 3 + 1 - m)) aW t) 9 t ht ?_ ?_
    · intro n' t ht
      exact br_t (nI_le (a := 9) (b := 9) (by decide) (by decide)) (nm_r (nI_1 c) (IH t ht))
    · intro n' k t hk ht IH2
      have d2 : nI k - nI k / 3 * 3 = nI (k % 3) := pk_rem (d := 3) (by omega) (by decide) (by decide)
      have d1 : nI k / 3 = nI (k / 3) := pk_div (d := 3) (by omega) (by decide) (by decide)
      have e1 : (nI s * nI x - nI m + (nI k - nI k / 3 * 3)).toInt = ((s * x + (9 * c + k) % 3 + 1 - m : Nat) : Int) - 1 := by
        rw [d2, cv_ro, pk_mul, nI_add, pk_sub_toInt (by omega) (by omega)]
        omega
      have e2 : (nI s * nI y - nI m + nI k / 3).toInt = ((s * y + (9 * c + k) % 9 / 3 + 1 - m : Nat) : Int) - 1 := by
        rw [d1, cv_ro, pk_mul, nI_add, pk_sub_toInt (by omega) (by omega)]
        omega
      have ei : nI (18 * a) + 9 * nI c + nI k = nI (18 * a + (9 * c + k)) := by
        show nI (18 * a) + nI 9 * nI c + nI k = _
        rw [pk_mul, nI_add, nI_add, Nat.add_assoc]
      refine br_f (nI_ge (b := 9) hk (by decide)) ⟨by decide, by decide, cv_atX (s * x + (9 * c + k) % 3 + 1 - m) (s * y + (9 * c + k) % 9 / 3 + 1 - m) hc (by omega) (by omega) e1 e2 ⟨pk_in (18 * a + (9 * c + k)) 1152 (by omega) ei, nm_r (by rw [pk_cl _ ei (by omega)]) (nm_r (nI_1 k) (IH2 _ (cv_flS ht ?_)))⟩⟩
      show _ = cv_pp aP ((9 * c + k) / 9) _ _
      rw [show (9 * c + k) / 9 = c by omega]
theorem cv_acX {post : SX → Prop} {k y w : Nat} (hk : k < 18) (hy : y < w) (hw : w ≤ 8) (H : ∀ t, cv_fl (8 * y) w (fun i => aO (8 * y + i) + aW (18 * (8 * y + i) + k) * aK k) aO t → post (fs, fm, fc, nI w, aP, aK, t, aE, aH, aS, aR, aL, aT, aU, aN, aG, aB, aW)) : wpX_addColumn post (fs, fm, fc, nI w, aP, aK, aO, aE, aH, aS, aR, aL, aT, aU, aN, aG, aB, aW) (nI k) (8 * nI y) := by
  have e8 : (8 : Int32) * nI y = nI (8 * y) := pk_mul 8 y
  rw [e8]
  show ∃ n2 : Nat, wX_addColumn_2 post (nI k) (nI (8 * y)) fs fm fc (nI w) n2 (nI (8 * y)) aP aK aO aE aH aS aR aL aT aU aN aG aB aW
  refine loop_0 (fun n i (t : Nat → Int32) => wX_addColumn_2 post (nI k) (nI (8 * y)) fs fm fc (nI w) n (nI (8 * y + i)) aP aK t aE aH aS aR aL aT aU aN aG aB aW) (fun i t => cv_fl (8 * y) i (fun i => aO (8 * y + i) + aW (18 * (8 * y + i) + k) * aK k) aO t) w aO cv_fl0 ?_ ?_
  · intro n t ht
    exact br_t (by rw [nI_add]; exact nI_le (Nat.le_refl _) (by omega)) (H t ht)
  · intro n i t hi ht IH
    have hin : vp_in (nI (8 * y + i)) 64 := vp_in_nI (by omega) (by decide)
    have ecl : (nI (8 * y + i)).toNatClampNeg = 8 * y + i := nI_clamp (by omega)
    have ei : 18 * nI (8 * y + i) + nI k = nI (18 * (8 * y + i) + k) := by
      show nI 18 * nI (8 * y + i) + nI k = _
      rw [pk_mul, nI_add]
    have en : nI (8 * y + i) + 1 = nI (8 * y + (i + 1)) := nI_1 _
    refine br_f (by rw [nI_add]; exact nI_ge (by omega) (by omega)) ⟨hin, pk_in (18 * (8 * y + i) + k) 1152 (by omega) ei, vp_in_nI hk (by decide), hin, nm_r (e' := upd t (8 * y + i) (t (8 * y + i) + aW (18 * (8 * y + i) + k) * aK k)) (by rw [ecl, pk_cl _ ei (by omega), nI_clamp (by omega)]) (nm_r en (IH _ (cv_flS ht ?_)))⟩
    rw [cv_flo ht (by omega)]
/-- windows: the state behind it -/
theorem cv_wiX {post : SX → Prop} {s m w : Nat} (hs : s = 1 ∨ s = 2) (hm : m = 0 ∨ m = 1) (hw : w ≤ 8) (h0 : ∀ j, j < 64 → aO j = 0) (H : ∀ o t : Nat → Int32, (∀ j, j % 8 < w → j / 8 < w → o j = cv_R aP aK s m (j % 8) (j / 8)) → post (nI s, nI m, fc, nI w, aP, aK, o, aE, aH, aS, aR, aL, aT, aU, aN, aG, aB, t)) : wpX_moveByWindows post (nI s, nI m, fc, nI w, aP, aK, aO, aE, aH, aS, aR, aL, aT, aU, aN, aG, aB, aW) := by
  show ∃ n2 : Nat, wX_moveByWindows_2 post n2 0 (nI s) (nI m) fc (nI w) aP aK aO aE aH aS aR aL aT aU aN aG aB aW
  refine loop_0 (fun n y (t : Nat → Int32) => wX_moveByWindows_2 post n (nI y) (nI s) (nI m) fc (nI w) aP aK aO aE aH aS aR aL aT aU aN aG aB t) (fun y t => ∀ j, j % 8 < w → j / 8 < y → ∀ k, k < 18 → t (18 * j + k) = cv_pp aP (k / 9) (s * (j % 8) + k % 3 + 1 - m) (s * (j / 8) + k % 9 / 3 + 1 - m)) w aW (fun j _ h => absurd h (Nat.not_lt_zero _)) ?_ ?_
  · intro n t ht
    refine br_t (nI_le (Nat.le_refl w) (by omega)) ?_
    refine loop_0 (fun n k (o : Nat → Int32) => wX_moveByWindows_69 post n (nI k) (nI s) (nI m) fc (nI w) aP aK o aE aH aS aR aL aT aU aN aG aB t) (fun k o => ∀ j, j % 8 < w → j / 8 < w → o j = cv_sum (cv_t aP aK s m (j % 8) (j / 8)) k) 18 aO (fun j h1 h2 => h0 j (by omega)) ?_ ?_
    · intro n o ho
      exact br_t (nI_le (a := 18) (b := 18) (by decide) (by decide)) (H o t ho)
    · intro n k o hk ho IH
      refine br_f (nI_ge (b := 18) hk (by decide)) ?_
      refine loop_0 (fun n' y (o : Nat → Int32) => wX_moveByWindows_77 post (wX_moveByWindows_69 post n) (nI k) n' (nI y) (nI s) (nI m) fc (nI w) aP aK o aE aH aS aR aL aT aU aN aG aB t) (fun y o => ∀ j, j % 8 < w → j / 8 < w → o j = cv_sum (cv_t aP aK s m (j % 8) (j / 8)) (if j / 8 < y then k + 1 else k)) w o (fun j h1 h2 => by rw [if_neg (Nat.not_lt_zero _)]; exact ho j h1 h2) ?_ ?_
      · intro n' o ho
        refine br_t (nI_le (Nat.le_refl w) (by omega)) (nm_r (nI_1 k) (IH o ?_))
        intro j h1 h2
        rw [ho j h1 h2, if_pos h2]
      · intro n' y o hy ho IH2
        refine br_f (nI_ge hy (by omega)) (cv_acX hk hy hw ?_)
        intro o' ho'
        refine nm_r (nI_1 y) (IH2 o' ?_)
        intro j h1 h2
        by_cases e : j / 8 = y
        · have ej : 8 * y + j % 8 = j := by omega
          have g := cv_fli ho' (k := j % 8) (by omega)
          rw [ej] at g
          rw [g, ho j h1 h2, if_neg (by omega), if_pos (by omega), ht j h1 h2 k hk, Int32.mul_comm]
          rfl
        · rw [cv_flo ho' (by omega), ho j h1 h2]
          by_cases z : j / 8 < y
          · rw [if_pos z, if_pos (by omega)]
          · rw [if_neg z, if_neg (by omega)]
  · intro n y t hy ht IH
    refine br_f (nI_ge hy (by omega)) ?_
    refine loop_0 (fun n' x (t : Nat → Int32) => wX_moveByWindows_12 post (wX_moveByWindows_2 post n) (nI y) n' (nI x) (nI s) (nI m) fc (nI w) aP aK aO aE aH aS aR aL aT aU aN aG aB t) (fun x t => ∀ j, j % 8 < w → (j / 8 < y ∨ (j / 8 = y ∧ j % 8 < x)) → ∀ k, k < 18 → t (18 * j + k) = cv_pp aP (k / 9) (s * (j % 8) + k % 3 + 1 - m) (s * (j / 8) + k % 9 / 3 + 1 - m)) w t (fun j h1 h2 => ht j h1 (by omega)) ?_ ?_
    · intro n' t ht
      exact br_t (nI_le (Nat.le_refl w) (by omega)) (nm_r (nI_1 y) (IH t (fun j h1 h2 => ht j h1 (by omega))))
    · intro n' x t hx ht IH2
      have ei : (18 : Int32) * (8 * nI y + nI x) = nI (18 * (8 * y + x)) := by
        rw [cv_x8]
        exact pk_mul 18 _
      refine br_f (nI_ge hx (by omega)) ?_
      rw [ei]
      refine cv_stX hs hm (by omega) (by omega) (by omega) ?_
      intro t' ht'
      refine nm_r (nI_1 x) (IH2 t' ?_)
      intro j h1 h2 k hk
      by_cases e : j = 8 * y + x
      · have g := cv_fli ht' hk
        rw [e, g, show (8 * y + x) % 8 = x by omega, show (8 * y + x) / 8 = y by omega]
      · rw [cv_flo ht' (by omega)]
        exact ht j h1 (by omega) k hk
end
end
section
/-! tiles: the pure law -/
def cv_f4 (a b c d : Int32) (q : Nat) : Int32 := if q = 0 then a - c else if q = 1 then b + c else if q = 2 then c - b else b - d
def cv_g4 (a b c : Int32) (q : Nat) : Int32 := if q = 0 then 2 * a else if q = 1 then a + b + c else if q = 2 then a - b + c else 2 * c
def cv_E1 (d : Nat → Nat → Int32) (j i : Nat) : Int32 := cv_f4 (d j 0) (d j 1) (d j 2) (d j 3) i
def cv_E2 (d : Nat → Nat → Int32) (j i : Nat) : Int32 := cv_f4 (cv_E1 d 0 i) (cv_E1 d 1 i) (cv_E1 d 2 i) (cv_E1 d 3 i) j
def cv_G1 (g : Nat → Nat → Int32) (j i : Nat) : Int32 := cv_g4 (g j 0) (g j 1) (g j 2) i
def cv_G2 (g : Nat → Nat → Int32) (j i : Nat) : Int32 := cv_g4 (cv_G1 g 0 i) (cv_G1 g 1 i) (cv_G1 g 2 i) j
def cv_M (d g : Nat → Nat → Int32) (j i : Nat) : Int32 := cv_E2 d j i * cv_G2 g j i
def cv_T (d g : Nat → Nat → Int32) (j i : Nat) : Int32 := if j = 0 then cv_M d g 0 i + cv_M d g 1 i + cv_M d g 2 i else cv_M d g 1 i - cv_M d g 2 i - cv_M d g 3 i
def cv_S (d g : Nat → Nat → Int32) (j q : Nat) : Int32 :=
  (g 0 0 * d j q + g 0 1 * d j (q + 1) + g 0 2 * d j (q + 2)) + (g 1 0 * d (j + 1) q + g 1 1 * d (j + 1) (q + 1) + g 1 2 * d (j + 1) (q + 2)) + (g 2 0 * d (j + 2) q + g 2 1 * d (j + 2) (q + 1) + g 2 2 * d (j + 2) (q + 2))
theorem cv_w1 (d0 d1 d2 g0 g1 g2 : Int32) : (d0 - d2) * (2 * g0) + (d1 + d2) * (g0 + g1 + g2) + (d2 - d1) * (g0 - g1 + g2) = 2 * (g0 * d0 + g1 * d1 + g2 * d2) := by grind
theorem cv_w2 (d1 d2 d3 g0 g1 g2 : Int32) : (d1 + d2) * (g0 + g1 + g2) - (d2 - d1) * (g0 - g1 + g2) - (d1 - d3) * (2 * g2) = 2 * (g0 * d1 + g1 * d2 + g2 * d3) := by grind
theorem cv_T0 (d g : Nat → Nat → Int32) (i : Nat) : cv_T d g 0 i = 2 * (cv_G1 g 0 i * cv_E1 d 0 i + cv_G1 g 1 i * cv_E1 d 1 i + cv_G1 g 2 i * cv_E1 d 2 i) := by
  show (cv_E1 d 0 i - cv_E1 d 2 i) * (2 * cv_G1 g 0 i) + (cv_E1 d 1 i + cv_E1 d 2 i) * (cv_G1 g 0 i + cv_G1 g 1 i + cv_G1 g 2 i) + (cv_E1 d 2 i - cv_E1 d 1 i) * (cv_G1 g 0 i - cv_G1 g 1 i + cv_G1 g 2 i) = _
  exact cv_w1 _ _ _ _ _ _
theorem cv_T1 (d g : Nat → Nat → Int32) (i : Nat) : cv_T d g 1 i = 2 * (cv_G1 g 0 i * cv_E1 d 1 i + cv_G1 g 1 i * cv_E1 d 2 i + cv_G1 g 2 i * cv_E1 d 3 i) := by
  show (cv_E1 d 1 i + cv_E1 d 2 i) * (cv_G1 g 0 i + cv_G1 g 1 i + cv_G1 g 2 i) - (cv_E1 d 2 i - cv_E1 d 1 i) * (cv_G1 g 0 i - cv_G1 g 1 i + cv_G1 g 2 i) - (cv_E1 d 1 i - cv_E1 d 3 i) * (2 * cv_G1 g 2 i) = _
  exact cv_w2 _ _ _ _ _ _
theorem cv_Tj (d g : Nat → Nat → Int32) {j : Nat} (hj : j < 2) (i : Nat) : cv_T d g j i = 2 * (cv_G1 g 0 i * cv_E1 d j i + cv_G1 g 1 i * cv_E1 d (j + 1) i + cv_G1 g 2 i * cv_E1 d (j + 2) i) := by
  obtain rfl | rfl : j = 0 ∨ j = 1 := by omega
  · exact cv_T0 d g i
  · exact cv_T1 d g i
theorem cv_r0 (a a' a'' b b' b'' c c' c'' A B C : Int32) (h1 : a + a' + a'' = 2 * A) (h2 : b + b' + b'' = 2 * B) (h3 : c + c' + c'' = 2 * C) : 2 * (a + b + c) + 2 * (a' + b' + c') + 2 * (a'' + b'' + c'') = 4 * (A + B + C) := by grind
theorem cv_r1 (a a' a'' b b' b'' c c' c'' A B C : Int32) (h1 : a - a' - a'' = 2 * A) (h2 : b - b' - b'' = 2 * B) (h3 : c - c' - c'' = 2 * C) : 2 * (a + b + c) - 2 * (a' + b' + c') - 2 * (a'' + b'' + c'') = 4 * (A + B + C) := by grind
theorem cv_v1 (d g : Nat → Nat → Int32) (j a : Nat) : cv_G1 g a 0 * cv_E1 d j 0 + cv_G1 g a 1 * cv_E1 d j 1 + cv_G1 g a 2 * cv_E1 d j 2 = 2 * (g a 0 * d j 0 + g a 1 * d j 1 + g a 2 * d j 2) := by
  show (2 * g a 0) * (d j 0 - d j 2) + (g a 0 + g a 1 + g a 2) * (d j 1 + d j 2) + (g a 0 - g a 1 + g a 2) * (d j 2 - d j 1) = _
  generalize g a 0 = g0, g a 1 = g1, g a 2 = g2, d j 0 = d0, d j 1 = d1, d j 2 = d2
  grind
theorem cv_v2 (d g : Nat → Nat → Int32) (j a : Nat) : cv_G1 g a 1 * cv_E1 d j 1 - cv_G1 g a 2 * cv_E1 d j 2 - cv_G1 g a 3 * cv_E1 d j 3 = 2 * (g a 0 * d j 1 + g a 1 * d j 2 + g a 2 * d j 3) := by
  show (g a 0 + g a 1 + g a 2) * (d j 1 + d j 2) - (g a 0 - g a 1 + g a 2) * (d j 2 - d j 1) - (2 * g a 2) * (d j 1 - d j 3) = _
  generalize g a 0 = g0, g a 1 = g1, g a 2 = g2, d j 1 = d1, d j 2 = d2, d j 3 = d3
  grind
theorem cv_o0 (d g : Nat → Nat → Int32) {j : Nat} (hj : j < 2) : cv_T d g j 0 + cv_T d g j 1 + cv_T d g j 2 = 4 * cv_S d g j 0 := by
  rw [cv_Tj d g hj, cv_Tj d g hj, cv_Tj d g hj]
  exact cv_r0 _ _ _ _ _ _ _ _ _ _ _ _ (cv_v1 d g j 0) (cv_v1 d g (j + 1) 1) (cv_v1 d g (j + 2) 2)
theorem cv_o1 (d g : Nat → Nat → Int32) {j : Nat} (hj : j < 2) : cv_T d g j 1 - cv_T d g j 2 - cv_T d g j 3 = 4 * cv_S d g j 1 := by
  rw [cv_Tj d g hj, cv_Tj d g hj, cv_Tj d g hj]
  exact cv_r1 _ _ _ _ _ _ _ _ _ _ _ _ (cv_v2 d g j 0) (cv_v2 d g (j + 1) 1) (cv_v2 d g (j + 2) 2)
/-! sums: equal terms, bounds -/
theorem cv_sumE {f g : Nat → Int32} : ∀ n, (∀ k, k < n → f k = g k) → cv_sum f n = cv_sum g n
  | 0, _ => rfl
  | n + 1, h => by
    show cv_sum f n + f n = cv_sum g n + g n
    rw [cv_sumE n (fun k hk => h k (by omega)), h n (by omega)]
theorem cv_sumA (f : Nat → Int32) (a : Nat) : ∀ b, cv_sum f (a + b) = cv_sum f a + cv_sum (fun k => f (a + k)) b
  | 0 => (Int32.add_zero _).symm
  | b + 1 => by
    show cv_sum f (a + b) + f (a + b) = cv_sum f a + (cv_sum (fun k => f (a + k)) b + f (a + b))
    rw [cv_sumA f a b, Int32.add_assoc]
theorem cv_bdS {f : Nat → Int32} {B : Nat} : ∀ n, (∀ k, k < n → (f k).toInt.natAbs ≤ B) → n * B ≤ 1000000 → (cv_sum f n).toInt.natAbs ≤ n * B
  | 0, _, _ => by
    show ((0 : Int32).toInt).natAbs ≤ _
    exact Nat.zero_le _
  | n + 1, h, hB => by
    show ((cv_sum f n + f n).toInt).natAbs ≤ _
    rw [Nat.succ_mul] at hB ⊢
    have h1 := cv_bdS n (fun k hk => h k (by omega)) (by omega)
    have h2 := h n (by omega)
    rw [Jvm.Kit.i32_add (by omega) (by omega)]
    omega
theorem cv_bdM {a b : Int32} (ha : -9 ≤ a.toInt ∧ a.toInt ≤ 9) (hb : -20 ≤ b.toInt ∧ b.toInt ≤ 20) : (a * b).toInt.natAbs ≤ 180 ∧ (a * b).toInt = a.toInt * b.toInt := by
  have hn : (a.toInt * b.toInt).natAbs ≤ 9 * 20 := by
    rw [Int.natAbs_mul]
    exact Nat.mul_le_mul (by omega) (by omega)
  have e : (a * b).toInt = a.toInt * b.toInt := Jvm.Kit.i32_mul (by omega) (by omega)
  rw [e]
  exact ⟨hn, rfl⟩
theorem cv_ppr {p : Nat → Int32} (h : ∀ j, j < 128 → -20 ≤ (p j).toInt ∧ (p j).toInt ≤ 20) {c : Nat} (hc : c < 2) (X Y : Nat) : -20 ≤ (cv_pp p c X Y).toInt ∧ (cv_pp p c X Y).toInt ≤ 20 := by
  unfold cv_pp
  by_cases z : 1 ≤ X ∧ X ≤ 8 ∧ 1 ≤ Y ∧ Y ≤ 8
  · rw [if_pos z]
    exact h _ (by omega)
  · rw [if_neg z]
    decide
theorem cv_div4 {x : Int32} (h : x.toInt.natAbs ≤ 1000000) : 4 * x / 4 = x := by
  have e4 : (4 : Int32).toInt = 4 := rfl
  have e : (4 * x).toInt = 4 * x.toInt := by
    rw [Jvm.Kit.i32_mul (by rw [e4]; omega) (by rw [e4]; omega), e4]
  apply Int32.toInt_inj.mp
  rw [Jvm.Kit.i32_div (by rw [e4]; omega), e, e4]
  exact Int.mul_tdiv_cancel_left _ (by decide)
/-- the sum of one layer -/
def cv_s9 (p k : Nat → Int32) (c m x y : Nat) : Int32 := cv_sum (fun j => k (9 * c + j) * cv_pp p c (x + j % 3 + 1 - m) (y + j / 3 + 1 - m)) 9
theorem cv_s9b {p k : Nat → Int32} (hp : ∀ j, j < 128 → -20 ≤ (p j).toInt ∧ (p j).toInt ≤ 20) (hk : ∀ j, j < 18 → -9 ≤ (k j).toInt ∧ (k j).toInt ≤ 9) {c m x y : Nat} (hc : c < 2) : (cv_s9 p k c m x y).toInt.natAbs ≤ 1000000 := by
  have h := cv_bdS (B := 180) (f := fun j => k (9 * c + j) * cv_pp p c (x + j % 3 + 1 - m) (y + j / 3 + 1 - m)) 9 (fun j hj => (cv_bdM (hk _ (by omega)) (cv_ppr hp hc _ _)).1) (by decide)
  exact Nat.le_trans h (by decide)
theorem cv_s9S {p k : Nat → Int32} {c m x y j q : Nat} : cv_S (fun a i => cv_pp p c (x + i + 1 - m) (y + a + 1 - m)) (fun a b => k (9 * c + (3 * a + b))) j q = cv_s9 p k c m (x + q) (y + j) := by
  have hf : ∀ a b, a < 3 → b < 3 → (fun i => k (9 * c + i) * cv_pp p c (x + q + i % 3 + 1 - m) (y + j + i / 3 + 1 - m)) (3 * a + b) = k (9 * c + (3 * a + b)) * cv_pp p c (x + (q + b) + 1 - m) (y + (j + a) + 1 - m) := by
    intro a b ha hb
    show k (9 * c + (3 * a + b)) * cv_pp p c (x + q + (3 * a + b) % 3 + 1 - m) (y + j + (3 * a + b) / 3 + 1 - m) = _
    rw [show (3 * a + b) % 3 = b by omega, show (3 * a + b) / 3 = a by omega, Nat.add_assoc x q b, Nat.add_assoc y j a]
  unfold cv_s9
  generalize (fun i => k (9 * c + i) * cv_pp p c (x + q + i % 3 + 1 - m) (y + j + i / 3 + 1 - m)) = f at hf ⊢
  generalize hd : (fun a i => cv_pp p c (x + i + 1 - m) (y + a + 1 - m)) = d
  generalize hg : (fun a b => k (9 * c + (3 * a + b))) = g
  have hf' : ∀ a b, a < 3 → b < 3 → f (3 * a + b) = g a b * d (j + a) (q + b) := by
    intro a b ha hb
    rw [← hd, ← hg]
    exact hf a b ha hb
  have h0 : f 0 = g 0 0 * d j q := hf' 0 0 (by decide) (by decide)
  have h1 : f 1 = g 0 1 * d j (q + 1) := hf' 0 1 (by decide) (by decide)
  have h2 : f 2 = g 0 2 * d j (q + 2) := hf' 0 2 (by decide) (by decide)
  have h3 : f 3 = g 1 0 * d (j + 1) q := hf' 1 0 (by decide) (by decide)
  have h4 : f 4 = g 1 1 * d (j + 1) (q + 1) := hf' 1 1 (by decide) (by decide)
  have h5 : f 5 = g 1 2 * d (j + 1) (q + 2) := hf' 1 2 (by decide) (by decide)
  have h6 : f 6 = g 2 0 * d (j + 2) q := hf' 2 0 (by decide) (by decide)
  have h7 : f 7 = g 2 1 * d (j + 2) (q + 1) := hf' 2 1 (by decide) (by decide)
  have h8 : f 8 = g 2 2 * d (j + 2) (q + 2) := hf' 2 2 (by decide) (by decide)
  unfold cv_S
  show _ = 0 + f 0 + f 1 + f 2 + f 3 + f 4 + f 5 + f 6 + f 7 + f 8
  rw [← h0, ← h1, ← h2, ← h3, ← h4, ← h5, ← h6, ← h7, ← h8]
  generalize f 0 = a0, f 1 = a1, f 2 = a2, f 3 = a3, f 4 = a4, f 5 = a5, f 6 = a6, f 7 = a7, f 8 = a8
  grind
/-- both layers: the reference's sum -/
theorem cv_s9R {p k : Nat → Int32} {m x y : Nat} : cv_sum (fun c => cv_s9 p k c m x y) 2 = cv_R p k 1 m x y := by
  have e0 : cv_sum (cv_t p k 1 m x y) 9 = cv_s9 p k 0 m x y := by
    refine cv_sumE 9 (fun j hj => ?_)
    show k j * cv_pp p (j / 9) (1 * x + j % 3 + 1 - m) (1 * y + j % 9 / 3 + 1 - m) = k (9 * 0 + j) * cv_pp p 0 (x + j % 3 + 1 - m) (y + j / 3 + 1 - m)
    rw [show j / 9 = 0 by omega, show j % 9 = j by omega, show 9 * 0 + j = j by omega, Nat.one_mul, Nat.one_mul]
  have e1 : cv_sum (fun j => cv_t p k 1 m x y (9 + j)) 9 = cv_s9 p k 1 m x y := by
    refine cv_sumE 9 (fun j hj => ?_)
    show k (9 + j) * cv_pp p ((9 + j) / 9) (1 * x + (9 + j) % 3 + 1 - m) (1 * y + (9 + j) % 9 / 3 + 1 - m) = k (9 * 1 + j) * cv_pp p 1 (x + j % 3 + 1 - m) (y + j / 3 + 1 - m)
    rw [show (9 + j) / 9 = 1 by omega, show (9 + j) % 9 = j by omega, show (9 + j) % 3 = j % 3 by omega, show 9 * 1 + j = 9 + j by omega, Nat.one_mul, Nat.one_mul]
  unfold cv_R
  rw [show (18 : Nat) = 9 + 9 from rfl, cv_sumA, e0, e1]
  show 0 + cv_s9 p k 0 m x y + cv_s9 p k 1 m x y = _
  rw [Int32.zero_add]
end
section
/-! tiles: the walk -/
theorem cv_r4 {t : Nat → Int32} {A B C D x : Nat} {va vb vc vd : Int32} (hn : A ≠ B ∧ A ≠ C ∧ A ≠ D ∧ B ≠ C ∧ B ≠ D ∧ C ≠ D) {q : Nat} (hq : q < 4) (hx : x = if q = 0 then A else if q = 1 then B else if q = 2 then C else D) : upd (upd (upd (upd t A va) B vb) C vc) D vd x = if q = 0 then va else if q = 1 then vb else if q = 2 then vc else vd := by
  obtain rfl | rfl | rfl | rfl : q = 0 ∨ q = 1 ∨ q = 2 ∨ q = 3 := by omega
  · have e : x = A := hx
    show _ = va
    rw [e, pk_un hn.2.2.1, pk_un hn.2.1, pk_un hn.1, pk_us]
  · have e : x = B := hx
    show _ = vb
    rw [e, pk_un hn.2.2.2.2.1, pk_un hn.2.2.2.1, pk_us]
  · have e : x = C := hx
    show _ = vc
    rw [e, pk_un hn.2.2.2.2.2, pk_us]
  · have e : x = D := hx
    show _ = vd
    rw [e, pk_us]
theorem cv_r4n {t : Nat → Int32} {A B C D x : Nat} {va vb vc vd : Int32} (h1 : x ≠ A) (h2 : x ≠ B) (h3 : x ≠ C) (h4 : x ≠ D) : upd (upd (upd (upd t A va) B vb) C vc) D vd x = t x := by
  rw [pk_un h4, pk_un h3, pk_un h2, pk_un h1]
section
variable {fs fm fc fw : Int32} {aP aK aO aE aH aS aR aL aT aU aN aG aB aW : Nat → Int32}
variable {gs gm gw : Int32} {bP bK bR : Nat → Int32}
/-- the kernel's shape -/
theorem cv_skX {post : SX → Prop} {c : Nat} (hc : c < 2) (H : ∀ hf sh : Nat → Int32, (∀ q i, q < 4 → i < 4 → sh (4 * q + i) = cv_G2 (fun a b => aK (9 * c + (3 * a + b))) q i) → post (fs, fm, fc, fw, aP, aK, aO, aE, hf, sh, aR, aL, aT, aU, aN, aG, aB, aW)) : wpX_shapeKernel post (fs, fm, fc, fw, aP, aK, aO, aE, aH, aS, aR, aL, aT, aU, aN, aG, aB, aW) (nI c) := by
  generalize hg : (fun a b => aK (9 * c + (3 * a + b))) = g at H
  have g0 : ∀ a b, aK (9 * c + (3 * a + b)) = g a b := by
    intro a b
    rw [← hg]
  show ∃ n2 : Nat, wX_shapeKernel_2 post (nI c) fs fm fc fw n2 0 aP aK aO aE aH aS aR aL aT aU aN aG aB aW
  refine loop_0 (fun n j (t : Nat → Int32) => wX_shapeKernel_2 post (nI c) fs fm fc fw n (nI j) aP aK aO aE t aS aR aL aT aU aN aG aB aW) (fun j t => ∀ a i, a < j → i < 4 → t (4 * a + i) = cv_G1 g a i) 3 aH (fun a i h => absurd h (Nat.not_lt_zero _)) ?_ ?_
  · intro n hf hhf
    refine br_t (nI_le (a := 3) (b := 3) (by decide) (by decide)) ?_
    refine loop_0 (fun n i (t : Nat → Int32) => wX_shapeKernel_122 post fs fm fc fw n (nI i) aP aK aO aE hf t aR aL aT aU aN aG aB aW) (fun k t => ∀ q i, q < 4 → i < k → t (4 * q + i) = cv_G2 g q i) 4 aS (fun q i _ h => absurd h (Nat.not_lt_zero _)) ?_ ?_
    · intro n t ht
      exact br_t (nI_le (a := 4) (b := 4) (by decide) (by decide)) (H hf t ht)
    · intro n i t hi ht IH
      have x4 : 4 + nI i = nI (4 + i) := nI_add 4 i
      have x8 : 8 + nI i = nI (8 + i) := nI_add 8 i
      have x12 : 12 + nI i = nI (12 + i) := nI_add 12 i
      have c4 : (4 + nI i).toNatClampNeg = 4 + i := pk_cl _ x4 (by omega)
      have c8 : (8 + nI i).toNatClampNeg = 8 + i := pk_cl _ x8 (by omega)
      have c12 : (12 + nI i).toNatClampNeg = 12 + i := pk_cl _ x12 (by omega)
      have c0 : (nI i).toNatClampNeg = i := nI_clamp (by omega)
      have v0 : hf (nI i).toNatClampNeg = cv_G1 g 0 i := by rw [c0, ← hhf 0 i (by omega) hi]; exact congrArg hf (by omega)
      have v1 : hf (4 + nI i).toNatClampNeg = cv_G1 g 1 i := by rw [c4, ← hhf 1 i (by omega) hi]
      have v2 : hf (8 + nI i).toNatClampNeg = cv_G1 g 2 i := by rw [c8, ← hhf 2 i (by omega) hi]
      refine br_f (nI_ge (b := 4) hi (by decide)) ⟨vp_in_nI (by omega) (by decide), nm_r v0 ⟨pk_in _ 16 (by omega) x4, nm_r v1 ⟨pk_in _ 16 (by omega) x8, nm_r v2 ⟨vp_in_nI (by omega) (by decide), nm_r (by rw [c0]) ⟨pk_in _ 16 (by omega) x4, nm_r (by rw [c4]) ⟨pk_in _ 16 (by omega) x8, nm_r (by rw [c8]) ⟨pk_in _ 16 (by omega) x12, nm_r (by rw [c12]) (nm_r (nI_1 i) (IH _ ?_))⟩⟩⟩⟩⟩⟩⟩
      intro q k hq hk
      by_cases e : k = i
      · subst e
        exact cv_r4 (by omega) hq (by (repeat' split) <;> omega)
      · rw [cv_r4n (by omega) (by omega) (by omega) (by omega)]
        exact ht q k hq (by omega)
  · intro n j t hj ht IH
    have e0 : 9 * nI c + 3 * nI j = nI (9 * c + (3 * j + 0)) := by
      show nI 9 * nI c + nI 3 * nI j = _
      rw [pk_mul, pk_mul, nI_add, Nat.add_zero]
    have e1 : 9 * nI c + 3 * nI j + 1 = nI (9 * c + (3 * j + 1)) := by rw [e0, nI_1]; exact congrArg nI (by omega)
    have e2 : 9 * nI c + 3 * nI j + 2 = nI (9 * c + (3 * j + 2)) := by rw [e0]; exact (nI_add _ 2).trans (congrArg nI (by omega))
    have f0 : 4 * nI j = nI (4 * j) := pk_mul 4 j
    have f1 : 4 * nI j + 1 = nI (4 * j + 1) := by rw [f0]; exact nI_add _ 1
    have f2 : 4 * nI j + 2 = nI (4 * j + 2) := by rw [f0]; exact nI_add _ 2
    have f3 : 4 * nI j + 3 = nI (4 * j + 3) := by rw [f0]; exact nI_add _ 3
    refine br_f (nI_ge (b := 3) hj (by decide)) ⟨pk_in _ 18 (by omega) e0, nm_r (e' := g j 0) (by rw [pk_cl _ e0 (by omega), g0]) ⟨pk_in _ 18 (by omega) e1, nm_r (e' := g j 1) (by rw [pk_cl _ e1 (by omega), g0]) ⟨pk_in _ 18 (by omega) e2, nm_r (e' := g j 2) (by rw [pk_cl _ e2 (by omega), g0]) ⟨pk_in _ 16 (by omega) f0, nm_r (by rw [pk_cl _ f0 (by omega)]) ⟨pk_in _ 16 (by omega) f1, nm_r (by rw [pk_cl _ f1 (by omega)]) ⟨pk_in _ 16 (by omega) f2, nm_r (by rw [pk_cl _ f2 (by omega)]) ⟨pk_in _ 16 (by omega) f3, nm_r (by rw [pk_cl _ f3 (by omega)]) (nm_r (nI_1 j) (IH _ ?_))⟩⟩⟩⟩⟩⟩⟩
    intro a i ha hi
    by_cases e : a = j
    · subst e
      exact cv_r4 (by omega) hi (by (repeat' split) <;> omega)
    · rw [cv_r4n (by omega) (by omega) (by omega) (by omega)]
      exact ht a i (by omega) hi
theorem cv_sfX {post : SX → Prop} {f st : Nat} {p r : Int32} (hp : p = nI f) (hr : r = nI st) (hf : f + 3 * st < 16) (hst : 0 < st) (H : ∀ t : Nat → Int32, (∀ q, q < 4 → t (f + q * st) = cv_f4 (aE f) (aE (f + st)) (aE (f + 2 * st)) (aE (f + 3 * st)) q) → (∀ x, x ≠ f → x ≠ f + st → x ≠ f + 2 * st → x ≠ f + 3 * st → t x = aE x) → post (fs, fm, fc, fw, aP, aK, aO, t, aH, aS, aR, aL, aT, aU, aN, aG, aB, aW)) : wpX_shapeFour post (fs, fm, fc, fw, aP, aK, aO, aE, aH, aS, aR, aL, aT, aU, aN, aG, aB, aW) p r := by
  subst hp hr
  have e1 : nI f + nI st = nI (f + st) := nI_add f st
  have e2 : nI f + 2 * nI st = nI (f + 2 * st) := by
    show nI f + nI 2 * nI st = _
    rw [pk_mul, nI_add]
  have e3 : nI f + 3 * nI st = nI (f + 3 * st) := by
    show nI f + nI 3 * nI st = _
    rw [pk_mul, nI_add]
  have c0 : (nI f).toNatClampNeg = f := nI_clamp (by omega)
  have c1 := pk_cl _ e1 (by omega)
  have c2 := pk_cl _ e2 (by omega)
  have c3 := pk_cl _ e3 (by omega)
  have i0 : vp_in (nI f) 16 := vp_in_nI (by omega) (by decide)
  have i1 := pk_in _ 16 (by omega) e1
  have i2 := pk_in _ 16 (by omega) e2
  have i3 := pk_in _ 16 (by omega) e3
  refine And.intro i0 (nm_r (e' := aE f) (by rw [c0]) ⟨i1, nm_r (e' := aE (f + st)) (by rw [c1]) ⟨i2, nm_r (e' := aE (f + 2 * st)) (by rw [c2]) ⟨i3, nm_r (e' := aE (f + 3 * st)) (by rw [c3]) ⟨i0, nm_r (by rw [c0]) ⟨i1, nm_r (by rw [c1]) ⟨i2, nm_r (by rw [c2]) ⟨i3, nm_r (by rw [c3]) (H _ ?_ ?_)⟩⟩⟩⟩⟩⟩⟩)
  · intro q hq
    exact cv_r4 (by omega) hq (by
      obtain rfl | rfl | rfl | rfl : q = 0 ∨ q = 1 ∨ q = 2 ∨ q = 3 := by omega
      · show f + 0 * st = f
        omega
      · show f + 1 * st = f + st
        omega
      · rfl
      · rfl)
  · intro x h1 h2 h3 h4
    exact cv_r4n h1 h2 h3 h4
theorem cv_adX {post : SX → Prop} {x y w : Nat} {p q v : Int32} (hp : p = nI x) (hq : q = nI y) (hx : x < w) (hy : y < w) (hw : w ≤ 8) (h : post (fs, fm, fc, nI w, aP, aK, upd aO (8 * y + x) (aO (8 * y + x) + v), aE, aH, aS, aR, aL, aT, aU, aN, aG, aB, aW)) : wpX_add post (fs, fm, fc, nI w, aP, aK, aO, aE, aH, aS, aR, aL, aT, aU, aN, aG, aB, aW) p q v := by
  subst hp hq
  have hin : vp_in (8 * nI y + nI x) 64 := pk_in (8 * y + x) 64 (by omega) (cv_x8 y x)
  have ecl : (8 * nI y + nI x).toNatClampNeg = 8 * y + x := pk_cl (8 * y + x) (cv_x8 y x) (by omega)
  exact br_f (nI_ge hx (by omega)) (br_f (nI_ge hy (by omega)) ⟨hin, hin, nm_r (by rw [ecl]) h⟩)
theorem cv_a250 {post : SX → Prop} {x y w : Nat} (V : Nat → Nat → Int32) (hx : x + 1 < w) (hy : y + 1 < w) (hw : w ≤ 8)
    (hT : ∀ j, j < 2 → (aR (4 * j) + aR (4 * j + 1) + aR (4 * j + 2)) / 4 = V x (y + j) ∧ (aR (4 * j + 1) - aR (4 * j + 2) - aR (4 * j + 3)) / 4 = V (x + 1) (y + j))
    (H : ∀ o : Nat → Int32, (∀ i, o i = if y ≤ i / 8 ∧ i / 8 < y + 2 ∧ x ≤ i % 8 ∧ i % 8 < x + 2 then aO i + V (i % 8) (i / 8) else aO i) → post (fs, fm, fc, nI w, aP, aK, o, aE, aH, aS, aR, aL, aT, aU, aN, aG, aB, aW)) :
    ∃ n : Nat, wX_addTile_250 post (nI x) (nI y) n 0 fs fm fc (nI w) aP aK aO aE aH aS aR aL aT aU aN aG aB aW := by
  refine loop_0 (fun n j (o : Nat → Int32) => wX_addTile_250 post (nI x) (nI y) n (nI j) fs fm fc (nI w) aP aK o aE aH aS aR aL aT aU aN aG aB aW) (fun j o => ∀ i, o i = if y ≤ i / 8 ∧ i / 8 < y + j ∧ x ≤ i % 8 ∧ i % 8 < x + 2 then aO i + V (i % 8) (i / 8) else aO i) 2 aO (fun i => by rw [if_neg (by omega)]) ?_ ?_
  · intro n o ho
    exact br_t (nI_le (a := 2) (b := 2) (by decide) (by decide)) (H o ho)
  · intro n j o hj ho IH
    have f0 : 4 * nI j = nI (4 * j) := pk_mul 4 j
    have f1 : 4 * nI j + 1 = nI (4 * j + 1) := by rw [f0]; exact nI_add _ 1
    have f2 : 4 * nI j + 2 = nI (4 * j + 2) := by rw [f0]; exact nI_add _ 2
    have f3 : 4 * nI j + 3 = nI (4 * j + 3) := by rw [f0]; exact nI_add _ 3
    have c0 := pk_cl _ f0 (by omega)
    have c1 := pk_cl _ f1 (by omega)
    have c2 := pk_cl _ f2 (by omega)
    have c3 := pk_cl _ f3 (by omega)
    have i0 := pk_in _ 16 (by omega) f0
    have i1 := pk_in _ 16 (by omega) f1
    have i2 := pk_in _ 16 (by omega) f2
    have i3 := pk_in _ 16 (by omega) f3
    refine br_f (nI_ge (b := 2) hj (by decide)) ⟨i0, i1, i2, nm_r (e' := aR (4 * j) + aR (4 * j + 1) + aR (4 * j + 2)) (by rw [c0, c1, c2]) ⟨i1, i2, i3, nm_r (e' := aR (4 * j + 1) - aR (4 * j + 2) - aR (4 * j + 3)) (by rw [c1, c2, c3]) ⟨by decide, cv_adX (y := y + j) rfl (nI_add y j) (by omega) (by omega) hw ⟨by decide, cv_adX (x := x + 1) (y := y + j) (nI_1 x) (nI_add y j) (by omega) (by omega) hw (nm_r (nI_1 j) (IH _ ?_))⟩⟩⟩⟩
    rw [(hT j hj).1, (hT j hj).2]
    intro i
    by_cases e1 : i = 8 * (y + j) + (x + 1)
    · rw [e1, pk_us, pk_un (by omega), ho (8 * (y + j) + (x + 1)), if_neg (by omega), if_pos (by omega), show (8 * (y + j) + (x + 1)) % 8 = x + 1 by omega, show (8 * (y + j) + (x + 1)) / 8 = y + j by omega]
    · rw [pk_un e1]
      by_cases e2 : i = 8 * (y + j) + x
      · rw [e2, pk_us, ho (8 * (y + j) + x), if_neg (by omega), if_pos (by omega), show (8 * (y + j) + x) % 8 = x by omega, show (8 * (y + j) + x) / 8 = y + j by omega]
      · rw [pk_un e2, ho i]
        by_cases z : y ≤ i / 8 ∧ i / 8 < y + j ∧ x ≤ i % 8 ∧ i % 8 < x + 2
        · rw [if_pos z, if_pos (by omega)]
        · rw [if_neg z, if_neg (by omega)]
theorem cv_a152 {post : SX → Prop} {p q : Int32}
    (H : ∀ t : Nat → Int32, (∀ q i, q < 2 → i < 4 → t (4 * q + i) = if q = 0 then aR i + aR (4 + i) + aR (8 + i) else aR (4 + i) - aR (8 + i) - aR (12 + i)) → ∃ n : Nat, wX_addTile_250 post p q n 0 fs fm fc fw aP aK aO aE aH aS t aL aT aU aN aG aB aW) :
    ∃ n : Nat, wX_addTile_152 post p q fs fm fc fw n 0 aP aK aO aE aH aS aR aL aT aU aN aG aB aW := by
  refine loop_0 (fun n k (t : Nat → Int32) => wX_addTile_152 post p q fs fm fc fw n (nI k) aP aK aO aE aH aS t aL aT aU aN aG aB aW) (fun k t => ∀ q i, q < 4 → i < 4 → t (4 * q + i) = if i < k ∧ q = 0 then aR i + aR (4 + i) + aR (8 + i) else if i < k ∧ q = 1 then aR (4 + i) - aR (8 + i) - aR (12 + i) else aR (4 * q + i)) 4 aR (fun q i _ _ => by rw [if_neg (by omega), if_neg (by omega)]) ?_ ?_
  · intro n t ht
    refine br_t (nI_le (a := 4) (b := 4) (by decide) (by decide)) (H t ?_)
    intro q i hq hi
    rw [ht q i (by omega) hi]
    by_cases z : q = 0
    · rw [if_pos ⟨hi, z⟩, if_pos z]
    · rw [if_neg (fun y => z y.2), if_pos ⟨hi, by omega⟩, if_neg z]
  · intro n k t hk ht IH
    have x4 : 4 + nI k = nI (4 + k) := nI_add 4 k
    have x8 : 8 + nI k = nI (8 + k) := nI_add 8 k
    have x12 : 12 + nI k = nI (12 + k) := nI_add 12 k
    have c0 : (nI k).toNatClampNeg = k := nI_clamp (by omega)
    have c4 : (4 + nI k).toNatClampNeg = 4 + k := pk_cl _ x4 (by omega)
    have c8 : (8 + nI k).toNatClampNeg = 8 + k := pk_cl _ x8 (by omega)
    have c12 : (12 + nI k).toNatClampNeg = 12 + k := pk_cl _ x12 (by omega)
    have i0 : vp_in (nI k) 16 := vp_in_nI (by omega) (by decide)
    have i4 := pk_in _ 16 (by omega) x4
    have i8 := pk_in _ 16 (by omega) x8
    have i12 := pk_in _ 16 (by omega) x12
    have r0 : t k = aR k := by
      have g := ht 0 k (by omega) hk
      rw [if_neg (by omega), if_neg (by omega), show 4 * 0 + k = k by omega] at g
      exact g
    have r4 : t (4 + k) = aR (4 + k) := by
      have g := ht 1 k (by omega) hk
      rw [if_neg (by omega), if_neg (by omega)] at g
      exact g
    have r8 : t (8 + k) = aR (8 + k) := by
      have g := ht 2 k (by omega) hk
      rw [if_neg (by omega), if_neg (by omega)] at g
      exact g
    have r12 : t (12 + k) = aR (12 + k) := by
      have g := ht 3 k (by omega) hk
      rw [if_neg (by omega), if_neg (by omega)] at g
      exact g
    refine br_f (nI_ge (b := 4) hk (by decide)) ⟨i0, i4, i8, nm_r (e' := aR k + aR (4 + k) + aR (8 + k)) (by rw [c0, c4, c8, r0, r4, r8]) ⟨i4, i8, i12, nm_r (e' := aR (4 + k) - aR (8 + k) - aR (12 + k)) (by rw [c4, c8, c12, r4, r8, r12]) ⟨i0, nm_r (by rw [c0]) ⟨i4, nm_r (by rw [c4]) (nm_r (nI_1 k) (IH _ ?_))⟩⟩⟩⟩
    intro q i hq hi
    by_cases e4 : 4 * q + i = 4 + k
    · have eq : q = 1 := by omega
      have ei : i = k := by omega
      rw [e4, pk_us, if_neg (by omega), if_pos (by omega), ei]
    · rw [pk_un e4]
      by_cases e0 : 4 * q + i = k
      · have eq : q = 0 := by omega
        have ei : i = k := by omega
        rw [e0, pk_us, if_pos (by omega), ei]
      · rw [pk_un e0, ht q i hq hi]
        by_cases z : i < k
        · by_cases q0 : q = 0
          · rw [if_pos ⟨z, q0⟩, if_pos ⟨by omega, q0⟩]
          · by_cases q1 : q = 1
            · rw [if_neg (fun y => q0 y.2), if_pos ⟨z, q1⟩, if_neg (fun y => q0 y.2), if_pos ⟨by omega, q1⟩]
            · rw [if_neg (fun y => q0 y.2), if_neg (fun y => q1 y.2), if_neg (fun y => q0 y.2), if_neg (fun y => q1 y.2)]
        · rw [if_neg (fun y => z y.1), if_neg (fun y => z y.1), if_neg (by omega), if_neg (by omega)]
theorem cv_a114 {post : SX → Prop} {p q : Int32}
    (H : ∀ t : Nat → Int32, (∀ k, k < 16 → t k = aE k * aS k) → ∃ n : Nat, wX_addTile_152 post p q fs fm fc fw n 0 aP aK aO aE aH aS t aL aT aU aN aG aB aW) :
    ∃ n : Nat, wX_addTile_114 post p q fs fm fc fw n 0 aP aK aO aE aH aS aR aL aT aU aN aG aB aW := by
  refine loop_0 (fun n k (t : Nat → Int32) => wX_addTile_114 post p q fs fm fc fw n (nI k) aP aK aO aE aH aS t aL aT aU aN aG aB aW) (fun k t => ∀ i, i < k → t i = aE i * aS i) 16 aR (fun i h => absurd h (Nat.not_lt_zero _)) ?_ ?_
  · intro n t ht
    exact br_t (nI_le (a := 16) (b := 16) (by decide) (by decide)) (H t ht)
  · intro n k t hk ht IH
    have i0 : vp_in (nI k) 16 := vp_in_nI (by omega) (by decide)
    refine br_f (nI_ge (b := 16) hk (by decide)) ⟨i0, i0, i0, nm_r (by rw [nI_clamp (by omega)]) (nm_r (nI_1 k) (IH _ ?_))⟩
    intro i hi
    by_cases e : i = k
    · rw [e, pk_us]
    · rw [pk_un e]
      exact ht i (by omega)
theorem cv_a92 {post : SX → Prop} {p q : Int32} {d : Nat → Nat → Int32} (hd : ∀ a i, a < 4 → i < 4 → aE (4 * a + i) = d a i)
    (H : ∀ t : Nat → Int32, (∀ a i, a < 4 → i < 4 → t (4 * a + i) = cv_f4 (d 0 i) (d 1 i) (d 2 i) (d 3 i) a) → ∃ n : Nat, wX_addTile_114 post p q fs fm fc fw n 0 aP aK aO t aH aS aR aL aT aU aN aG aB aW) :
    ∃ n : Nat, wX_addTile_92 post p q n 0 fs fm fc fw aP aK aO aE aH aS aR aL aT aU aN aG aB aW := by
  refine loop_0 (fun n k (t : Nat → Int32) => wX_addTile_92 post p q n (nI k) fs fm fc fw aP aK aO t aH aS aR aL aT aU aN aG aB aW) (fun k t => ∀ a i, a < 4 → i < 4 → t (4 * a + i) = if i < k then cv_f4 (d 0 i) (d 1 i) (d 2 i) (d 3 i) a else d a i) 4 aE (fun a i ha hi => by rw [if_neg (by omega)]; exact hd a i ha hi) ?_ ?_
  · intro n t ht
    refine br_t (nI_le (a := 4) (b := 4) (by decide) (by decide)) (H t ?_)
    intro a i ha hi
    rw [ht a i ha hi, if_pos hi]
  · intro n k t hk ht IH
    refine br_f (nI_ge (b := 4) hk (by decide)) (cv_sfX (f := k) (st := 4) rfl rfl (by omega) (by decide) ?_)
    intro t' h1 h2
    refine nm_r (nI_1 k) (IH t' ?_)
    have r : ∀ a, a < 4 → t (4 * a + k) = d a k := fun a ha => by rw [ht a k ha hk, if_neg (by omega)]
    have r0 : t k = d 0 k := by rw [← r 0 (by decide)]; exact congrArg t (by omega)
    have r1 : t (k + 4) = d 1 k := by rw [← r 1 (by decide)]; exact congrArg t (by omega)
    have r2 : t (k + 2 * 4) = d 2 k := by rw [← r 2 (by decide)]; exact congrArg t (by omega)
    have r3 : t (k + 3 * 4) = d 3 k := by rw [← r 3 (by decide)]; exact congrArg t (by omega)
    intro a i ha hi
    by_cases e : i = k
    · rw [e, if_pos (by omega), show 4 * a + k = k + a * 4 by omega, h1 a ha, r0, r1, r2, r3]
    · rw [h2 (4 * a + i) (by omega) (by omega) (by omega) (by omega), ht a i ha hi]
      by_cases z : i < k
      · rw [if_pos z, if_pos (by omega)]
      · rw [if_neg z, if_neg (by omega)]
theorem cv_a68 {post : SX → Prop} {p q : Int32} {d : Nat → Nat → Int32} (hd : ∀ a i, a < 4 → i < 4 → aE (4 * a + i) = d a i)
    (H : ∀ t : Nat → Int32, (∀ a i, a < 4 → i < 4 → t (4 * a + i) = cv_f4 (d a 0) (d a 1) (d a 2) (d a 3) i) → ∃ n : Nat, wX_addTile_92 post p q n 0 fs fm fc fw aP aK aO t aH aS aR aL aT aU aN aG aB aW) :
    ∃ n : Nat, wX_addTile_68 post p q n 0 fs fm fc fw aP aK aO aE aH aS aR aL aT aU aN aG aB aW := by
  refine loop_0 (fun n k (t : Nat → Int32) => wX_addTile_68 post p q n (nI k) fs fm fc fw aP aK aO t aH aS aR aL aT aU aN aG aB aW) (fun k t => ∀ a i, a < 4 → i < 4 → t (4 * a + i) = if a < k then cv_f4 (d a 0) (d a 1) (d a 2) (d a 3) i else d a i) 4 aE (fun a i ha hi => by rw [if_neg (by omega)]; exact hd a i ha hi) ?_ ?_
  · intro n t ht
    refine br_t (nI_le (a := 4) (b := 4) (by decide) (by decide)) (H t ?_)
    intro a i ha hi
    rw [ht a i ha hi, if_pos ha]
  · intro n k t hk ht IH
    refine br_f (nI_ge (b := 4) hk (by decide)) (cv_sfX (f := 4 * k) (st := 1) (pk_mul 4 k) rfl (by omega) (by decide) ?_)
    intro t' h1 h2
    refine nm_r (nI_1 k) (IH t' ?_)
    have r : ∀ i, i < 4 → t (4 * k + i) = d k i := fun i hi => by rw [ht k i hk hi, if_neg (by omega)]
    have r0 : t (4 * k) = d k 0 := r 0 (by decide)
    have r1 : t (4 * k + 1) = d k 1 := r 1 (by decide)
    have r2 : t (4 * k + 2 * 1) = d k 2 := r 2 (by decide)
    have r3 : t (4 * k + 3 * 1) = d k 3 := r 3 (by decide)
    intro a i ha hi
    by_cases e : a = k
    · rw [e, if_pos (by omega), show 4 * k + i = 4 * k + i * 1 by omega, h1 i hi, r0, r1, r2, r3]
    · rw [h2 (4 * a + i) (by omega) (by omega) (by omega) (by omega), ht a i ha hi]
      by_cases z : a < k
      · rw [if_pos z, if_pos (by omega)]
      · rw [if_neg z, if_neg (by omega)]
/-- one tile -/
theorem cv_tiX {post : SX → Prop} {c m x y w : Nat} (hc : c < 2) (hm : m = 0 ∨ m = 1) (hx : x + 1 < w) (hy : y + 1 < w) (hw : w ≤ 8)
    (hp : ∀ j, j < 128 → -20 ≤ (aP j).toInt ∧ (aP j).toInt ≤ 20) (hk : ∀ j, j < 18 → -9 ≤ (aK j).toInt ∧ (aK j).toInt ≤ 9)
    (hS : ∀ q i, q < 4 → i < 4 → aS (4 * q + i) = cv_G2 (fun a b => aK (9 * c + (3 * a + b))) q i)
    (H : ∀ o e r : Nat → Int32, (∀ i, o i = if y ≤ i / 8 ∧ i / 8 < y + 2 ∧ x ≤ i % 8 ∧ i % 8 < x + 2 then aO i + cv_s9 aP aK c m (i % 8) (i / 8) else aO i) → post (fs, nI m, fc, nI w, aP, aK, o, e, aH, aS, r, aL, aT, aU, aN, aG, aB, aW)) :
    wpX_addTile post (fs, nI m, fc, nI w, aP, aK, aO, aE, aH, aS, aR, aL, aT, aU, aN, aG, aB, aW) (nI c) (nI x) (nI y) := by
  generalize hg : (fun a b => aK (9 * c + (3 * a + b))) = g at hS
  show ∃ n3 : Nat, wX_addTile_3 post (nI c) (nI x) (nI y) fs (nI m) fc (nI w) n3 0 aP aK aO aE aH aS aR aL aT aU aN aG aB aW
  refine loop_0 (fun n j (t : Nat → Int32) => wX_addTile_3 post (nI c) (nI x) (nI y) fs (nI m) fc (nI w) n (nI j) aP aK aO t aH aS aR aL aT aU aN aG aB aW) (fun j t => ∀ a i, a < j → i < 4 → t (4 * a + i) = cv_pp aP c (x + i + 1 - m) (y + a + 1 - m)) 4 aE (fun a i h => absurd h (Nat.not_lt_zero _)) ?_ ?_
  · intro n e0 he0
    refine br_t (nI_le (a := 4) (b := 4) (by decide) (by decide)) ?_
    have hSd : ∀ j q, cv_S (fun a i => cv_pp aP c (x + i + 1 - m) (y + a + 1 - m)) g j q = cv_s9 aP aK c m (x + q) (y + j) := by
      intro j q
      rw [← hg]
      exact cv_s9S
    have hd : ∀ a i, a < 4 → i < 4 → e0 (4 * a + i) = (fun a i => cv_pp aP c (x + i + 1 - m) (y + a + 1 - m)) a i := he0
    generalize (fun a i => cv_pp aP c (x + i + 1 - m) (y + a + 1 - m)) = d at hSd hd
    refine cv_a68 hd ?_
    intro e1 h1
    refine cv_a92 (d := cv_E1 d) h1 ?_
    intro e2 h2
    refine cv_a114 ?_
    intro r hr
    refine cv_a152 ?_
    intro t ht
    have hM : ∀ a i, a < 4 → i < 4 → r (4 * a + i) = cv_M d g a i := by
      intro a i ha hi
      rw [hr _ (by omega), h2 a i ha hi, hS a i ha hi]
      rfl
    have hTt : ∀ q i, q < 2 → i < 4 → t (4 * q + i) = cv_T d g q i := by
      intro q i hq hi
      rw [ht q i hq hi]
      have m0 : r i = cv_M d g 0 i := by
        rw [← hM 0 i (by decide) hi]
        exact congrArg r (by omega)
      have m1 : r (4 + i) = cv_M d g 1 i := hM 1 i (by decide) hi
      have m2 : r (8 + i) = cv_M d g 2 i := hM 2 i (by decide) hi
      have m3 : r (12 + i) = cv_M d g 3 i := hM 3 i (by decide) hi
      rw [m0, m1, m2, m3]
      rfl
    refine cv_a250 (fun X Y => cv_s9 aP aK c m X Y) hx hy hw ?_ ?_
    · intro j hj
      have t0 : t (4 * j) = cv_T d g j 0 := hTt j 0 hj (by decide)
      have t1 : t (4 * j + 1) = cv_T d g j 1 := hTt j 1 hj (by decide)
      have t2 : t (4 * j + 2) = cv_T d g j 2 := hTt j 2 hj (by decide)
      have t3 : t (4 * j + 3) = cv_T d g j 3 := hTt j 3 hj (by decide)
      rw [t0, t1, t2, t3, cv_o0 d g hj, cv_o1 d g hj, hSd, hSd, cv_div4 (cv_s9b hp hk hc), cv_div4 (cv_s9b hp hk hc)]
      exact ⟨rfl, rfl⟩
    · intro o ho
      exact H o _ _ ho
  · intro n j t hj ht IH
    refine br_f (nI_ge (b := 4) hj (by decide)) ?_
    refine loop_0 (fun n' i (t : Nat → Int32) => wX_addTile_12 post (wX_addTile_3 post (nI c) (nI x) (nI y) fs (nI m) fc (nI w) n) (nI c) (nI x) (nI y) (nI j) fs (nI m) fc (nI w) n' (nI i) aP aK aO t aH aS aR aL aT aU aN aG aB aW) (fun k t => ∀ a i, (a < j ∨ (a = j ∧ i < k)) → i < 4 → t (4 * a + i) = cv_pp aP c (x + i + 1 - m) (y + a + 1 - m)) 4 t (fun a i ha hi => ht a i (by omega) hi) ?_ ?_
    · intro n' t ht
      exact br_t (nI_le (a := 4) (b := 4) (by decide) (by decide)) (nm_r (nI_1 j) (IH t (fun a i ha hi => ht a i (by omega) hi)))
    · intro n' k t hk ht IH2
      have e1 : (nI x + nI k - nI m).toInt = ((x + k + 1 - m : Nat) : Int) - 1 := by
        rw [nI_add, pk_sub_toInt (by omega) (by omega)]
        omega
      have e2 : (nI y + nI j - nI m).toInt = ((y + j + 1 - m : Nat) : Int) - 1 := by
        rw [nI_add, pk_sub_toInt (by omega) (by omega)]
        omega
      have ei : 4 * nI j + nI k = nI (4 * j + k) := by
        show nI 4 * nI j + nI k = _
        rw [pk_mul, nI_add]
      refine br_f (nI_ge (b := 4) hk (by decide)) (cv_atX (x + k + 1 - m) (y + j + 1 - m) hc (by omega) (by omega) e1 e2 ⟨pk_in (4 * j + k) 16 (by omega) ei, nm_r (by rw [pk_cl _ ei (by omega)]) (nm_r (nI_1 k) (IH2 _ ?_))⟩)
      intro a i ha hi
      by_cases e : a = j ∧ i = k
      · rw [e.1, e.2, pk_us]
      · rw [pk_un (by omega)]
        exact ht a i (by omega) hi
end
end
section
/-! tiles: the move -/
theorem cv_tw (y : Nat) : nI (2 * y) + 2 = nI (2 * (y + 1)) := (nI_add (2 * y) 2).trans (congrArg nI (by omega))
section
variable {fs fm fc fw : Int32} {aP aK aO aE aH aS aR aL aT aU aN aG aB aW : Nat → Int32}
variable {gs gm gw : Int32} {bP bK bR : Nat → Int32}
theorem cv_mtX {post : SX → Prop} {m w h : Nat} (hm : m = 0 ∨ m = 1) (hh : w = 2 * h) (hw : w ≤ 8)
    (hp : ∀ j, j < 128 → -20 ≤ (aP j).toInt ∧ (aP j).toInt ≤ 20) (hk : ∀ j, j < 18 → -9 ≤ (aK j).toInt ∧ (aK j).toInt ≤ 9)
    (h0 : ∀ j, j < 64 → aO j = 0)
    (H : ∀ o e hf sh r : Nat → Int32, (∀ j, j % 8 < w → j / 8 < w → o j = cv_R aP aK 1 m (j % 8) (j / 8)) → post (fs, nI m, fc, nI w, aP, aK, o, e, hf, sh, r, aL, aT, aU, aN, aG, aB, aW)) :
    wpX_moveByTiles post (fs, nI m, fc, nI w, aP, aK, aO, aE, aH, aS, aR, aL, aT, aU, aN, aG, aB, aW) := by
  show ∃ n2 : Nat, wX_moveByTiles_2 post n2 0 fs (nI m) fc (nI w) aP aK aO aE aH aS aR aL aT aU aN aG aB aW
  refine loop_0 (fun n c (s : (Nat → Int32) × (Nat → Int32) × (Nat → Int32) × (Nat → Int32) × (Nat → Int32)) => wX_moveByTiles_2 post n (nI c) fs (nI m) fc (nI w) aP aK s.1 s.2.1 s.2.2.1 s.2.2.2.1 s.2.2.2.2 aL aT aU aN aG aB aW) (fun c s => ∀ j, j % 8 < w → j / 8 < w → s.1 j = cv_sum (fun c => cv_s9 aP aK c m (j % 8) (j / 8)) c) 2 (aO, aE, aH, aS, aR) (fun j h1 h2 => h0 j (by omega)) ?_ ?_
  · intro n s hs
    refine br_t (nI_le (a := 2) (b := 2) (by decide) (by decide)) (H s.1 s.2.1 s.2.2.1 s.2.2.2.1 s.2.2.2.2 ?_)
    intro j h1 h2
    rw [hs j h1 h2]
    exact cv_s9R
  · intro n c s hc hs IH
    refine br_f (nI_ge (b := 2) hc (by decide)) (cv_skX hc ?_)
    intro hf sh hsh
    refine loop_0 (fun n' y (t : (Nat → Int32) × (Nat → Int32) × (Nat → Int32)) => wX_moveByTiles_14 post (wX_moveByTiles_2 post n) (nI c) n' (nI (2 * y)) fs (nI m) fc (nI w) aP aK t.1 t.2.1 hf sh t.2.2 aL aT aU aN aG aB aW) (fun y t => ∀ j, j % 8 < w → j / 8 < w → t.1 j = cv_sum (fun c => cv_s9 aP aK c m (j % 8) (j / 8)) (if j / 8 < 2 * y then c + 1 else c)) h (s.1, s.2.1, s.2.2.2.2) (fun j h1 h2 => by rw [if_neg (by omega)]; exact hs j h1 h2) ?_ ?_
    · intro n' t ht
      refine br_t (nI_le (by omega) (by omega)) (nm_r (nI_1 c) (IH (t.1, t.2.1, hf, sh, t.2.2) ?_))
      intro j h1 h2
      show t.1 j = _
      rw [ht j h1 h2, if_pos (by omega)]
    · intro n' y t hy ht IH2
      refine br_f (nI_ge (by omega) (by omega)) ?_
      refine loop_0 (fun n'' x (t : (Nat → Int32) × (Nat → Int32) × (Nat → Int32)) => wX_moveByTiles_24 post (wX_moveByTiles_2 post n) (wX_moveByTiles_14 post (wX_moveByTiles_2 post n) (nI c) n') (nI c) (nI (2 * y)) n'' (nI (2 * x)) fs (nI m) fc (nI w) aP aK t.1 t.2.1 hf sh t.2.2 aL aT aU aN aG aB aW) (fun x t => ∀ j, j % 8 < w → j / 8 < w → t.1 j = cv_sum (fun c => cv_s9 aP aK c m (j % 8) (j / 8)) (if j / 8 < 2 * y ∨ (j / 8 < 2 * y + 2 ∧ j % 8 < 2 * x) then c + 1 else c)) h t (fun j h1 h2 => by
        rw [ht j h1 h2]
        by_cases z : j / 8 < 2 * y
        · rw [if_pos z, if_pos (Or.inl z)]
        · rw [if_neg z, if_neg (by omega)]) ?_ ?_
      · intro n'' t ht
        refine br_t (nI_le (by omega) (by omega)) (nm_r (cv_tw y) (IH2 t ?_))
        intro j h1 h2
        rw [ht j h1 h2]
        by_cases z : j / 8 < 2 * y + 2
        · rw [if_pos (by omega), if_pos (by omega)]
        · rw [if_neg (by omega), if_neg (by omega)]
      · intro n'' x t hx ht IH3
        refine br_f (nI_ge (by omega) (by omega)) (cv_tiX hc hm (by omega) (by omega) hw hp hk hsh ?_)
        intro o e r ho
        refine nm_r (cv_tw x) (IH3 (o, e, r) ?_)
        intro j h1 h2
        show o j = _
        rw [ho j, ht j h1 h2]
        by_cases z : 2 * y ≤ j / 8 ∧ j / 8 < 2 * y + 2 ∧ 2 * x ≤ j % 8 ∧ j % 8 < 2 * x + 2
        · rw [if_pos z, if_neg (by omega), if_pos (by omega)]
          rfl
        · rw [if_neg z]
          by_cases z2 : j / 8 < 2 * y ∨ (j / 8 < 2 * y + 2 ∧ j % 8 < 2 * x)
          · rw [if_pos z2, if_pos (by omega)]
          · rw [if_neg z2, if_neg (by omega)]
end
end
section
/-! numbers modulo 7681 and sums of them -/
abbrev cv_Z : Type := Fin 7681
def cv_sm (f : Nat → cv_Z) : Nat → cv_Z
  | 0 => 0
  | n + 1 => cv_sm f n + f n
theorem zr_ac (a b c d : cv_Z) : a + b + (c + d) = a + c + (b + d) := by grind
theorem zr_da (a b c : cv_Z) : a * b + a * c = a * (b + c) := by grind
theorem zr_0 (a : cv_Z) : a * 0 = 0 := by grind
theorem zr_00 : (0 : cv_Z) + 0 = 0 := by grind
theorem zr_a0 (a : cv_Z) : a + 0 = a := by grind
theorem zr_0a (a : cv_Z) : 0 + a = a := by grind
theorem zr_m0 (a : cv_Z) : 0 * a = 0 := by grind
theorem zr_c (a b : cv_Z) : a * b = b * a := by grind
theorem zr_t (v f w g x : cv_Z) : v * ((f * w) * (g * x)) = (f * g) * (v * (w * x)) := by grind
theorem zs_E {f g : Nat → cv_Z} : ∀ n, (∀ k, k < n → f k = g k) → cv_sm f n = cv_sm g n
  | 0, _ => rfl
  | n + 1, h => by
    show cv_sm f n + f n = cv_sm g n + g n
    rw [zs_E n (fun k hk => h k (by omega)), h n (by omega)]
theorem zs_A (f g : Nat → cv_Z) : ∀ n, cv_sm (fun k => f k + g k) n = cv_sm f n + cv_sm g n
  | 0 => zr_00.symm
  | n + 1 => by
    show cv_sm (fun k => f k + g k) n + (f n + g n) = (cv_sm f n + f n) + (cv_sm g n + g n)
    rw [zs_A f g n, zr_ac]
theorem zs_M (c : cv_Z) (f : Nat → cv_Z) : ∀ n, cv_sm (fun k => c * f k) n = c * cv_sm f n
  | 0 => (zr_0 c).symm
  | n + 1 => by
    show cv_sm (fun k => c * f k) n + c * f n = c * (cv_sm f n + f n)
    rw [zs_M c f n, zr_da]
theorem zs_N (c : cv_Z) (f : Nat → cv_Z) (n : Nat) : cv_sm (fun k => f k * c) n = cv_sm f n * c := by
  rw [zr_c, ← zs_M]
  exact zs_E n (fun k _ => zr_c _ _)
theorem zs_0 : ∀ n, cv_sm (fun _ => 0) n = 0
  | 0 => rfl
  | n + 1 => by
    show cv_sm (fun _ => 0) n + 0 = 0
    rw [zs_0 n, zr_00]
theorem zs_S (f : Nat → Nat → cv_Z) (m : Nat) : ∀ n, cv_sm (fun i => cv_sm (fun j => f i j) m) n = cv_sm (fun j => cv_sm (fun i => f i j) n) m
  | 0 => (zs_0 m).symm
  | n + 1 => by
    show cv_sm (fun i => cv_sm (fun j => f i j) m) n + cv_sm (fun j => f n j) m = cv_sm (fun j => cv_sm (fun i => f i j) n + f n j) m
    rw [zs_S f m n, zs_A]
theorem zs_C {f : Nat → cv_Z} {m : Nat} : ∀ n, m ≤ n → (∀ k, m ≤ k → k < n → f k = 0) → cv_sm f n = cv_sm f m
  | 0, h, _ => by
    have e : m = 0 := by omega
    rw [e]
  | n + 1, h, hz => by
    by_cases e : m = n + 1
    · rw [e]
    · show cv_sm f n + f n = cv_sm f m
      rw [hz n (by omega) (by omega), zr_a0, zs_C n (by omega) (fun k h1 h2 => hz k h1 (by omega))]
theorem zs_1 {f : Nat → cv_Z} {a n : Nat} (ha : a < n) (h : ∀ k, k < n → k ≠ a → f k = 0) : cv_sm f n = f a := by
  rw [zs_C (m := a + 1) n (by omega) (fun k h1 h2 => h k h2 (by omega))]
  show cv_sm f a + f a = f a
  rw [zs_C (m := 0) a (by omega) (fun k h1 h2 => h k (by omega) (by omega))]
  exact zr_0a _
/-! from the integers -/
def cv_z (x : Int) : cv_Z := Fin.ofNat 7681 (x % 7681).toNat
theorem cv_zv (x : Int) : ((cv_z x).val : Int) = x % 7681 := by
  show (((x % 7681).toNat % 7681 : Nat) : Int) = _
  omega
theorem cv_zE {x y : Int} (h : x % 7681 = y % 7681) : cv_z x = cv_z y := by
  unfold cv_z
  rw [h]
theorem cv_zI {x y : Int} (h : cv_z x = cv_z y) : x % 7681 = y % 7681 := by
  rw [← cv_zv, ← cv_zv, h]
theorem cv_zA (x y : Int) : cv_z (x + y) = cv_z x + cv_z y := by
  apply Fin.ext
  apply Int.ofNat_inj.mp
  rw [Fin.val_add, Int.natCast_emod, Int.natCast_add, cv_zv, cv_zv, cv_zv]
  show (x + y) % 7681 = (x % 7681 + y % 7681) % 7681
  omega
theorem cv_zM (x y : Int) : cv_z (x * y) = cv_z x * cv_z y := by
  apply Fin.ext
  apply Int.ofNat_inj.mp
  rw [Fin.val_mul, Int.natCast_emod, Int.natCast_mul, cv_zv, cv_zv, cv_zv]
  exact Int.mul_emod x y 7681
theorem cv_z0 : cv_z 0 = 0 := by decide
/-- an int's number -/
def cv_q (x : Int32) : cv_Z := cv_z x.toInt
def cv_rg (x : Int32) : Prop := 0 ≤ x.toInt ∧ x.toInt < 7681
theorem cv_p7 : (7681 : Int32).toInt = 7681 := rfl
theorem cv_rm {x : Int32} (h : 0 ≤ x.toInt) : cv_rg (x - x / 7681 * 7681) ∧ cv_q (x - x / 7681 * 7681) = cv_q x := by
  have e : (x - x / 7681 * 7681).toInt = x.toInt % 7681 := by
    rw [cv_remI, cv_p7, Int.tmod_eq_emod_of_nonneg h]
  unfold cv_rg cv_q
  rw [e]
  exact ⟨⟨by omega, by omega⟩, cv_zE (by omega)⟩
theorem cv_mmI {x y : Int32} (hx : cv_rg x) (hy : cv_rg y) : (x * y).toInt = x.toInt * y.toInt ∧ 0 ≤ (x * y).toInt ∧ (x * y).toInt ≤ 58982400 := by
  have h0 : 0 ≤ x.toInt * y.toInt := Int.mul_nonneg hx.1 hy.1
  have h1 : x.toInt * y.toInt ≤ 7680 * 7680 := Int.mul_le_mul (by have := hx.2; omega) (by have := hy.2; omega) hy.1 (by decide)
  have e : (x * y).toInt = x.toInt * y.toInt := Jvm.Kit.i32_mul (by omega) (by omega)
  rw [e]
  exact ⟨rfl, h0, h1⟩
theorem cv_mm {x y : Int32} (hx : cv_rg x) (hy : cv_rg y) : cv_rg (x * y - x * y / 7681 * 7681) ∧ cv_q (x * y - x * y / 7681 * 7681) = cv_q x * cv_q y := by
  have h := cv_mmI hx hy
  have g := cv_rm h.2.1
  refine ⟨g.1, g.2.trans ?_⟩
  unfold cv_q
  rw [h.1, cv_zM]
theorem cv_qA {x y : Int32} (h1 : -2147483648 ≤ x.toInt + y.toInt) (h2 : x.toInt + y.toInt < 2147483648) : cv_q (x + y) = cv_q x + cv_q y := by
  unfold cv_q
  rw [Jvm.Kit.i32_add (by omega) (by omega), cv_zA]
theorem cv_q0 : cv_q 0 = 0 := by decide
theorem cv_rg0 : cv_rg 0 := by
  unfold cv_rg
  decide
theorem cv_rgn {n : Nat} (h : n < 7681) : cv_rg (nI n) := by
  unfold cv_rg
  rw [nI_toInt (by omega)]
  omega
/-- reduce -/
theorem cv_redI (v : Int32) (h1 : -7681 < v.toInt) (h2 : v.toInt < 7681) : (v - v / 7681 * 7681) = v := by
  apply Int32.toInt_inj.mp
  rw [cv_remI, cv_p7]
  rcases Int.le_total 0 v.toInt with h | h
  · exact Int.tmod_eq_of_lt h h2
  · have e : v.toInt = -(-v.toInt) := by omega
    rw [e, Int.neg_tmod, Int.tmod_eq_of_lt (by omega) (by omega)]
end
section
/-! powers of the root; sums of them; the convolution law -/
def cv_rt (n : Nat) : Nat := cv_root.getD (n % 16) 0
def cv_bt (n : Nat) : Nat := cv_back.getD (n % 16) 0
def cv_W (n : Nat) : cv_Z := cv_z (cv_rt n)
def cv_V (n : Nat) : cv_Z := cv_z (cv_bt n)
theorem cv_rtm (n : Nat) : cv_rt (n % 16) = cv_rt n := by
  unfold cv_rt
  rw [Nat.mod_mod]
theorem cv_tabM : ∀ m, m < 16 → ∀ n, n < 16 → (cv_rt m * cv_rt n) % 7681 = cv_rt (m + n) % 7681 := by decide +kernel
theorem cv_tabV : ∀ m, m < 16 → cv_bt m = cv_rt (15 * m) := by decide +kernel
theorem cv_tabL : ∀ m, m < 16 → cv_root.getD m 0 < 7681 ∧ cv_back.getD m 0 < 7681 := by decide +kernel
theorem cv_tabS : ∀ d, d < 16 → cv_sm (fun k => cv_W (k * d)) 16 = if d = 0 then 16 else 0 := by decide +kernel
theorem cv_WM (m n : Nat) : cv_W m * cv_W n = cv_W (m + n) := by
  have h := cv_tabM (m % 16) (Nat.mod_lt _ (by decide)) (n % 16) (Nat.mod_lt _ (by decide))
  rw [cv_rtm, cv_rtm, ← cv_rtm (m % 16 + n % 16), ← Nat.add_mod, cv_rtm] at h
  unfold cv_W
  rw [← cv_zM, ← Int.natCast_mul]
  apply cv_zE
  rw [show (7681 : Int) = ((7681 : Nat) : Int) from rfl, ← Int.natCast_emod, ← Int.natCast_emod, h]
theorem cv_VW (m : Nat) : cv_V m = cv_W (15 * m) := by
  have h := cv_tabV (m % 16) (Nat.mod_lt _ (by decide))
  have e1 : cv_bt (m % 16) = cv_bt m := by
    unfold cv_bt
    rw [Nat.mod_mod]
  have e2 : cv_rt (15 * (m % 16)) = cv_rt (15 * m) := by
    unfold cv_rt
    rw [show 15 * (m % 16) % 16 = 15 * m % 16 by omega]
  rw [e1, e2] at h
  unfold cv_V cv_W
  rw [h]
theorem cv_Wm (k d : Nat) : cv_W (k * d) = cv_W (k * (d % 16)) := by
  unfold cv_W cv_rt
  rw [show k * d % 16 = k * (d % 16) % 16 by rw [Nat.mul_mod, Nat.mul_mod k (d % 16), Nat.mod_mod]]
theorem cv_orth {a i j : Nat} (ha : a < 16) : cv_sm (fun k => cv_V (k * a) * (cv_W (k * i) * cv_W (k * j))) 16 = if (i + j) % 16 = a then 16 else 0 := by
  have e : ∀ k, cv_V (k * a) * (cv_W (k * i) * cv_W (k * j)) = cv_W (k * ((15 * a + (i + j)) % 16)) := by
    intro k
    rw [cv_VW, cv_WM, cv_WM, ← cv_Wm, Nat.mul_add, Nat.mul_add, Nat.mul_left_comm]
  rw [zs_E 16 (fun k _ => e k), cv_tabS _ (Nat.mod_lt _ (by decide))]
  by_cases z : (i + j) % 16 = a
  · rw [if_pos z, if_pos (by omega)]
  · rw [if_neg z, if_neg (by omega)]
/-- one dimension -/
theorem cv_cv1 (f g : Nat → cv_Z) {a : Nat} (ha : a < 16) : cv_sm (fun k => cv_V (k * a) * (cv_sm (fun i => f i * cv_W (k * i)) 16 * cv_sm (fun j => g j * cv_W (k * j)) 16)) 16 = cv_sm (fun i => f i * g ((a + 16 - i) % 16)) 16 * 16 := by
  have e1 : ∀ k, cv_V (k * a) * (cv_sm (fun i => f i * cv_W (k * i)) 16 * cv_sm (fun j => g j * cv_W (k * j)) 16) = cv_sm (fun i => cv_sm (fun j => (f i * g j) * (cv_V (k * a) * (cv_W (k * i) * cv_W (k * j)))) 16) 16 := by
    intro k
    rw [← zs_N, ← zs_M]
    refine zs_E 16 (fun i _ => ?_)
    rw [← zs_M, ← zs_M]
    exact zs_E 16 (fun j _ => zr_t _ _ _ _ _)
  rw [zs_E 16 (fun k _ => e1 k), zs_S, ← zs_N]
  refine zs_E 16 (fun i hi => ?_)
  rw [zs_S, zs_1 (a := (a + 16 - i) % 16) (Nat.mod_lt _ (by decide))]
  · rw [zs_M, cv_orth ha, if_pos (by omega)]
  · intro j hj hne
    rw [zs_M, cv_orth ha, if_neg (by omega), zr_0]
/-! two dimensions -/
def cv_tf (U : Nat → cv_Z) (f : Nat → Nat → cv_Z) (k l : Nat) : cv_Z := cv_sm (fun y => cv_sm (fun x => f y x * U (l * x)) 16 * U (k * y)) 16
theorem cv_tfA (U : Nat → cv_Z) (f g : Nat → Nat → cv_Z) (k l : Nat) : cv_tf U (fun y x => f y x + g y x) k l = cv_tf U f k l + cv_tf U g k l := by
  unfold cv_tf
  rw [← zs_A]
  refine zs_E 16 (fun y _ => ?_)
  have e : cv_sm (fun x => (f y x + g y x) * U (l * x)) 16 = cv_sm (fun x => f y x * U (l * x)) 16 + cv_sm (fun x => g y x * U (l * x)) 16 := by
    rw [← zs_A]
    refine zs_E 16 (fun x _ => ?_)
    generalize f y x = a, g y x = b, U (l * x) = c
    grind
  rw [e]
  generalize cv_sm (fun x => f y x * U (l * x)) 16 = a, cv_sm (fun x => g y x * U (l * x)) 16 = b, U (k * y) = c
  grind
theorem cv_tfE (U : Nat → cv_Z) {f g : Nat → Nat → cv_Z} (h : ∀ y x, y < 16 → x < 16 → f y x = g y x) (k l : Nat) : cv_tf U f k l = cv_tf U g k l := by
  unfold cv_tf
  refine zs_E 16 (fun y hy => ?_)
  rw [zs_E 16 (fun x hx => by rw [h y x hy hx])]
theorem zr_u (k p v w : cv_Z) : k * p * v * w = w * (k * p) * v := by grind
theorem zr_x (v a b : cv_Z) : a * b * 16 * v = v * (a * b) * 16 := by grind
theorem zr_y (a b : cv_Z) : a * 16 * 16 + b * 16 * 16 = (a + b) * 16 * 16 := by grind
theorem zr_w (a v w : cv_Z) : a * v * w = w * a * v := by grind
theorem zr_v (a v : cv_Z) : a * 16 * v = v * a * 16 := by grind
theorem cv_cv2 (K P : Nat → Nat → cv_Z) {a b : Nat} (ha : a < 16) (hb : b < 16) : cv_tf cv_V (fun k l => cv_tf cv_W K k l * cv_tf cv_W P k l) a b = cv_sm (fun y => cv_sm (fun x => K y x * P ((a + 16 - y) % 16) ((b + 16 - x) % 16)) 16) 16 * 16 * 16 := by
  have e1 : cv_tf cv_V (fun k l => cv_tf cv_W K k l * cv_tf cv_W P k l) a b = cv_sm (fun l => cv_sm (fun k => cv_V (k * a) * (cv_tf cv_W K k l * cv_tf cv_W P k l)) 16 * cv_V (l * b)) 16 := by
    have e2 : ∀ l, cv_sm (fun k => cv_V (k * a) * (cv_tf cv_W K k l * cv_tf cv_W P k l)) 16 * cv_V (l * b) = cv_sm (fun k => cv_V (k * a) * (cv_tf cv_W K k l * cv_tf cv_W P k l) * cv_V (l * b)) 16 := fun l => (zs_N _ _ 16).symm
    rw [zs_E 16 (fun l _ => e2 l), ← zs_S]
    unfold cv_tf
    refine zs_E 16 (fun k _ => ?_)
    rw [← zs_N]
    refine zs_E 16 (fun l _ => ?_)
    rw [Nat.mul_comm b l, Nat.mul_comm a k]
    exact zr_u _ _ _ _
  rw [e1]
  have e3 : ∀ l, cv_sm (fun k => cv_V (k * a) * (cv_tf cv_W K k l * cv_tf cv_W P k l)) 16 * cv_V (l * b) = cv_sm (fun y => cv_V (l * b) * (cv_sm (fun x => K y x * cv_W (l * x)) 16 * cv_sm (fun x => P ((a + 16 - y) % 16) x * cv_W (l * x)) 16)) 16 * 16 := by
    intro l
    have h := cv_cv1 (fun y => cv_sm (fun x => K y x * cv_W (l * x)) 16) (fun y => cv_sm (fun x => P y x * cv_W (l * x)) 16) ha
    unfold cv_tf
    rw [h, zr_v, ← zs_M]
  rw [zs_E 16 (fun l _ => e3 l), zs_N, ← zs_S]
  have e4 : ∀ y, cv_sm (fun l => cv_V (l * b) * (cv_sm (fun x => K y x * cv_W (l * x)) 16 * cv_sm (fun x => P ((a + 16 - y) % 16) x * cv_W (l * x)) 16)) 16 = cv_sm (fun x => K y x * P ((a + 16 - y) % 16) ((b + 16 - x) % 16)) 16 * 16 := fun y => cv_cv1 (fun x => K y x) (fun x => P ((a + 16 - y) % 16) x) hb
  rw [zs_E 16 (fun y _ => e4 y), zs_N]
end
section
/-! power, the constructor -/
def cv_pw (e : Int32) : Nat → Int32 → Int32 → Int32 → Int32
  | 0, x, _, _ => x
  | d + 1, x, sq, i => cv_pw e d (if ((e >>> (i &&& 31)) &&& 1) = 1 then x * sq - x * sq / 7681 * 7681 else x) (sq * sq - sq * sq / 7681 * 7681) (i + 1)
theorem cv_pw1 : cv_pw 480 14 1 17 0 = 7098 := by decide +kernel
theorem cv_pw2 : cv_pw 7679 14 1 7098 0 = 7154 := by decide +kernel
theorem cv_pw3 : cv_pw 7679 14 1 256 0 = 7651 := by decide +kernel
section
variable {fs fm fc fw : Int32} {aP aK aO aE aH aS aR aL aT aU aN aG aB aW : Nat → Int32}
variable {gs gm gw : Int32} {bP bK bR : Nat → Int32}
theorem cv_pwX {post : Int32 → Prop} {e : Int32} : ∀ d i (x sq : Int32), i + d = 14 → post (cv_pw e d x sq (nI i)) → wX_power_8 post e fs fm fc fw aP aK aO aE aH aS aR aL aT aU aN aG aB aW (d + 1) x sq (nI i)
  | 0, i, x, sq, hi, h => br_t (nI_le (a := 14) (by omega) (by omega)) h
  | d + 1, i, x, sq, hi, h => by
    have h' : post (cv_pw e d (if ((e >>> (nI i &&& 31)) &&& 1) = 1 then x * sq - x * sq / 7681 * 7681 else x) (sq * sq - sq * sq / 7681 * 7681) (nI i + 1)) := h
    rw [nI_1] at h'
    refine br_f (nI_ge (b := 14) (by omega) (by decide)) ?_
    by_cases hb : ((e >>> (nI i &&& 31)) &&& 1) = 1
    · rw [if_pos hb] at h'
      exact br_t hb ⟨by decide, nm_e (And.intro (by decide) (nm_e (nm_r (nI_1 i) (cv_pwX d (i + 1) _ _ (by omega) h'))))⟩
    · rw [if_neg hb] at h'
      exact br_f hb (And.intro (by decide) (nm_e (nm_r (nI_1 i) (cv_pwX d (i + 1) _ _ (by omega) h'))))
theorem cv_powX {post : Int32 → Prop} {p e r : Int32} (h : cv_pw e 14 1 p 0 = r) (hp : post r) : wpX_power post (fs, fm, fc, fw, aP, aK, aO, aE, aH, aS, aR, aL, aT, aU, aN, aG, aB, aW) p e := by
  subst h
  exact Exists.intro 15 (cv_pwX 14 0 1 p rfl hp)
end
theorem cv_tabG : ∀ i, i < 15 → nI (cv_root.getD i 0) * 7098 - nI (cv_root.getD i 0) * 7098 / 7681 * 7681 = nI (cv_root.getD (i + 1) 0) := by decide +kernel
theorem cv_tabB : ∀ i, i < 15 → nI (cv_back.getD i 0) * 7154 - nI (cv_back.getD i 0) * 7154 / 7681 * 7681 = nI (cv_back.getD (i + 1) 0) := by decide +kernel
section
variable {fs fm fc fw : Int32} {aP aK aO aE aH aS aR aL aT aU aN aG aB aW : Nat → Int32}
variable {gs gm gw : Int32} {bP bK bR : Nat → Int32}
theorem cv_inX {post : SX → Prop} (h1 : ∀ j, j < 1 → aG j = nI (cv_root.getD j 0)) (h2 : ∀ j, j < 1 → aB j = nI (cv_back.getD j 0)) (H : ∀ g b : Nat → Int32, (∀ j, j < 16 → g j = nI (cv_root.getD j 0)) → (∀ j, j < 16 → b j = nI (cv_back.getD j 0)) → post (fs, fm, fc, fw, aP, aK, aO, aE, aH, aS, aR, aL, aT, aU, aN, g, b, aW)) : ∃ n : Nat, wX_init_166 post 7098 7154 fs fm fc fw n 1 aP aK aO aE aH aS aR aL aT aU aN aG aB aW := by
  refine pk_loop (fun n i (s : (Nat → Int32) × (Nat → Int32)) => wX_init_166 post 7098 7154 fs fm fc fw n (nI i) aP aK aO aE aH aS aR aL aT aU aN s.1 s.2 aW) (fun i s => 1 ≤ i ∧ (∀ j, j < i → s.1 j = nI (cv_root.getD j 0)) ∧ (∀ j, j < i → s.2 j = nI (cv_back.getD j 0))) 16 1 (aG, aB) (by decide) ⟨by decide, h1, h2⟩ ?_ ?_
  · intro n s hs
    exact br_t (nI_le (a := 16) (b := 16) (by decide) (by decide)) (H s.1 s.2 hs.2.1 hs.2.2)
  · intro n i s hi hs IH
    obtain ⟨k, rfl⟩ : ∃ k, i = k + 1 := ⟨i - 1, by have := hs.1; omega⟩
    have e1 : nI (k + 1) - 1 = nI k := nI_pred k
    have c1 : (nI (k + 1) - 1).toNatClampNeg = k := pk_cl _ e1 (by omega)
    have c0 : (nI (k + 1)).toNatClampNeg = k + 1 := nI_clamp (by omega)
    have i1 : vp_in (nI (k + 1) - 1) 16 := pk_in _ 16 (by omega) e1
    have i0 : vp_in (nI (k + 1)) 16 := vp_in_nI (by omega) (by decide)
    refine br_f (nI_ge (b := 16) hi (by decide)) ⟨i1, by decide, i0, nm_r (e' := upd s.1 (k + 1) (nI (cv_root.getD (k + 1) 0))) (by rw [c1, c0, hs.2.1 k (by omega), cv_tabG k (by omega)]) ⟨i1, by decide, i0, nm_r (e' := upd s.2 (k + 1) (nI (cv_back.getD (k + 1) 0))) (by rw [c1, c0, hs.2.2 k (by omega), cv_tabB k (by omega)]) (nm_r (nI_1 (k + 1)) (IH (_, _) ⟨by omega, ?_, ?_⟩))⟩⟩
    · intro j hj
      show upd s.1 (k + 1) (nI (cv_root.getD (k + 1) 0)) j = _
      by_cases e : j = k + 1
      · rw [e, pk_us]
      · rw [pk_un e]
        exact hs.2.1 j (by omega)
    · intro j hj
      show upd s.2 (k + 1) (nI (cv_back.getD (k + 1) 0)) j = _
      by_cases e : j = k + 1
      · rw [e, pk_us]
      · rw [pk_un e]
        exact hs.2.2 j (by omega)
end
theorem i_vc0 : wpX_init (fun u => wpY_init (fun v => i_Rel 0 u v)) := by
  unfold wpX_init
  refine cv_powX cv_pw1 (cv_powX cv_pw2 (nm_e (nm_e (cv_inX ?_ ?_ ?_))))
  · intro j hj
    have e : j = 0 := by omega
    rw [e, pk_us]
    rfl
  · intro j hj
    have e : j = 0 := by omega
    rw [e, pk_us]
    rfl
  · intro g b hg hb
    have z20 : -20 ≤ (0 : Int32).toInt ∧ (0 : Int32).toInt ≤ 20 := by decide
    have z9 : -9 ≤ (0 : Int32).toInt ∧ (0 : Int32).toInt ≤ 9 := by decide
    exact cv_in (k := 0) (s := 1) (m := 1) (w := 0) (fc := 0) (aP := fun _ => 0) (aK := fun _ => 0) (aO := fun _ => 0) (aE := fun _ => 0) (aH := fun _ => 0) (aS := fun _ => 0) (aR := fun _ => 0) (aL := fun _ => 0) (aT := fun _ => 0) (aU := fun _ => 0) (aN := fun _ => 0) (aW := fun _ => 0) (bR := fun _ => 0) (aG := g) (aB := b) ⟨Or.inl rfl, Or.inr rfl, by decide, fun _ _ => z20, fun _ _ => z9, hg, hb, fun j h1 _ => absurd h1 (Nat.not_lt_zero _)⟩
end
section
/-! transformLine, transform -/
theorem cv_qn {n : Nat} (h : n < 2147483648) : cv_q (nI n) = cv_z n := by
  unfold cv_q
  rw [nI_toInt (by omega)]
/-- the table that b picks -/
def cv_tb (b : Int32) (aG aB : Nat → Int32) (U : Nat → cv_Z) : Prop :=
  ∀ n, (b = 0 ∧ cv_rg (aG (n % 16)) ∧ cv_q (aG (n % 16)) = U n) ∨ (¬ b = 0 ∧ cv_rg (aB (n % 16)) ∧ cv_q (aB (n % 16)) = U n)
theorem cv_tbW {aG aB : Nat → Int32} (h : ∀ j, j < 16 → aG j = nI (cv_root.getD j 0)) : cv_tb 0 aG aB cv_W := by
  intro n
  have l := (cv_tabL (n % 16) (Nat.mod_lt _ (by decide))).1
  rw [h (n % 16) (Nat.mod_lt _ (by decide))]
  exact Or.inl ⟨rfl, cv_rgn l, cv_qn (by omega)⟩
theorem cv_tbV {aG aB : Nat → Int32} (h : ∀ j, j < 16 → aB j = nI (cv_back.getD j 0)) : cv_tb 1 aG aB cv_V := by
  intro n
  have l := (cv_tabL (n % 16) (Nat.mod_lt _ (by decide))).2
  rw [h (n % 16) (Nat.mod_lt _ (by decide))]
  exact Or.inr ⟨by decide, cv_rgn l, cv_qn (by omega)⟩
section
variable {fs fm fc fw : Int32} {aP aK aO aE aH aS aR aL aT aU aN aG aB aW : Nat → Int32}
variable {gs gm gw : Int32} {bP bK bR : Nat → Int32}
theorem cv_l16 {post : SX → Prop} {J3 : Int32 → (Nat → Int32) → (Nat → Int32) → (Nat → Int32) → (Nat → Int32) → (Nat → Int32) → (Nat → Int32) → (Nat → Int32) → (Nat → Int32) → (Nat → Int32) → (Nat → Int32) → (Nat → Int32) → (Nat → Int32) → (Nat → Int32) → (Nat → Int32) → Prop} {f st k : Nat} {b : Int32} {U : Nat → cv_Z} (hk : k < 16) (hst : st = 1 ∨ st = 16) (hf : f + 15 * st < 256)
    (hL : ∀ i, i < 16 → cv_rg (aL (f + i * st))) (hT : cv_tb b aG aB U)
    (H : ∀ v, cv_rg v → cv_q v = cv_sm (fun i => cv_q (aL (f + i * st)) * U (k * i)) 16 → J3 (nI (k + 1)) aP aK aO aE aH aS aR aL aT aU (upd aN k v) aG aB aW) :
    ∃ n : Nat, wX_transformLine_16 post J3 (nI f) (nI st) b (nI k) fs fm fc fw aP aK aO aE aH aS aR aL aT aU aN aG aB aW n 0 0 := by
  refine loop_0 (fun n i (t : Int32) => wX_transformLine_16 post J3 (nI f) (nI st) b (nI k) fs fm fc fw aP aK aO aE aH aS aR aL aT aU aN aG aB aW n t (nI i)) (fun i t => 0 ≤ t.toInt ∧ t.toInt ≤ 7680 * (i : Int) ∧ cv_q t = cv_sm (fun i => cv_q (aL (f + i * st)) * U (k * i)) i) 16 0 ⟨by decide, by decide, cv_q0⟩ ?_ ?_
  · intro n t ht
    have g := cv_rm ht.1
    exact br_t (nI_le (a := 16) (b := 16) (by decide) (by decide)) ⟨by decide, vp_in_nI hk (by decide), nm_r (by rw [nI_clamp (by omega)]) (nm_r (nI_1 k) (H _ g.1 (g.2.trans ht.2.2)))⟩
  · intro n i t hi ht IH
    have ei : nI f + nI i * nI st = nI (f + i * st) := by rw [pk_mul, nI_add]
    have hin : f + i * st < 256 := by
      rcases hst with rfl | rfl <;> omega
    have hki : k * i ≤ 15 * 15 := Nat.mul_le_mul (by omega) (by omega)
    have em : (nI k * nI i) &&& 15 = nI ((k * i) % 16) := by
      rw [pk_mul]
      exact pk_andN (by omega) 4 (by decide)
    have key : ∀ z0 : Int32, cv_rg z0 → cv_q z0 = U (k * i) → wX_transformLine_56 post J3 (wX_transformLine_16 post J3 (nI f) (nI st) b (nI k) fs fm fc fw aP aK aO aE aH aS aR aL aT aU aN aG aB aW n) (nI f) (nI st) b (nI k) t (nI i) z0 fs fm fc fw aP aK aO aE aH aS aR aL aT aU aN aG aB aW := by
      intro z0 hz hq
      have g := cv_mm (hL i hi) hz
      have g1 := g.1
      unfold cv_rg at g1
      have ea : (t + (aL (f + i * st) * z0 - aL (f + i * st) * z0 / 7681 * 7681)).toInt = t.toInt + (aL (f + i * st) * z0 - aL (f + i * st) * z0 / 7681 * 7681).toInt := Jvm.Kit.i32_add (by omega) (by omega)
      refine And.intro (pk_in _ 256 hin ei) ⟨by decide, nm_r (e' := t + (aL (f + i * st) * z0 - aL (f + i * st) * z0 / 7681 * 7681)) (by rw [pk_cl _ ei (by omega)]) (nm_r (nI_1 i) (IH _ ⟨by rw [ea]; omega, by rw [ea]; omega, ?_⟩))⟩
      rw [cv_qA (by omega) (by omega), ht.2.2, g.2, hq]
      rfl
    refine br_f (nI_ge (b := 16) hi (by decide)) ?_
    have i15 : vp_in ((nI k * nI i) &&& 15) 16 := pk_in ((k * i) % 16) 16 (by omega) em
    have c15 : ((nI k * nI i) &&& 15).toNatClampNeg = (k * i) % 16 := pk_cl _ em (by omega)
    rcases hT (k * i) with ⟨hb, h1, h2⟩ | ⟨hb, h1, h2⟩
    · refine br_t hb ⟨i15, ?_⟩
      rw [c15]
      exact key _ h1 h2
    · refine br_f hb ⟨i15, ?_⟩
      rw [c15]
      exact key _ h1 h2
theorem cv_tlX {post : SX → Prop} {f st : Nat} {p r b : Int32} {U : Nat → cv_Z} (ep : p = nI f) (er : r = nI st) (hst : st = 1 ∨ st = 16) (hf : f + 15 * st < 256)
    (hL : ∀ i, i < 16 → cv_rg (aL (f + i * st))) (hT : cv_tb b aG aB U)
    (H : ∀ t N : Nat → Int32, (∀ k, k < 16 → cv_rg (t (f + k * st)) ∧ cv_q (t (f + k * st)) = cv_sm (fun i => cv_q (aL (f + i * st)) * U (k * i)) 16) → (∀ i, (∀ k, k < 16 → i ≠ f + k * st) → t i = aL i) → post (fs, fm, fc, fw, aP, aK, aO, aE, aH, aS, aR, t, aT, aU, N, aG, aB, aW)) :
    wpX_transformLine post (fs, fm, fc, fw, aP, aK, aO, aE, aH, aS, aR, aL, aT, aU, aN, aG, aB, aW) p r b := by
  subst ep er
  show ∃ n3 : Nat, wX_transformLine_3 post (nI f) (nI st) b fs fm fc fw n3 0 aP aK aO aE aH aS aR aL aT aU aN aG aB aW
  refine loop_0 (fun n k (N : Nat → Int32) => wX_transformLine_3 post (nI f) (nI st) b fs fm fc fw n (nI k) aP aK aO aE aH aS aR aL aT aU N aG aB aW) (fun k N => ∀ k', k' < k → cv_rg (N k') ∧ cv_q (N k') = cv_sm (fun i => cv_q (aL (f + i * st)) * U (k' * i)) 16) 16 aN (fun k' h => absurd h (Nat.not_lt_zero _)) ?_ ?_
  · intro n N hN
    refine br_t (nI_le (a := 16) (b := 16) (by decide) (by decide)) ?_
    refine loop_0 (fun n k (t : Nat → Int32) => wX_transformLine_109 post (nI f) (nI st) fs fm fc fw n (nI k) aP aK aO aE aH aS aR t aT aU N aG aB aW) (fun k t => (∀ k', k' < k → t (f + k' * st) = N k') ∧ (∀ i, (∀ k', k' < 16 → i ≠ f + k' * st) → t i = aL i)) 16 aL ⟨fun k' h => absurd h (Nat.not_lt_zero _), fun i _ => rfl⟩ ?_ ?_
    · intro n t ht
      refine br_t (nI_le (a := 16) (b := 16) (by decide) (by decide)) (H t N ?_ ht.2)
      intro k hk
      rw [ht.1 k hk]
      exact hN k hk
    · intro n k t hk ht IH
      have ei : nI f + nI k * nI st = nI (f + k * st) := by rw [pk_mul, nI_add]
      have hin : f + k * st < 256 := by
        rcases hst with rfl | rfl <;> omega
      refine br_f (nI_ge (b := 16) hk (by decide)) ⟨vp_in_nI hk (by decide), pk_in _ 256 hin ei, nm_r (e' := upd t (f + k * st) (N k)) (by rw [pk_cl _ ei (by omega), nI_clamp (by omega)]) (nm_r (nI_1 k) (IH _ ⟨?_, ?_⟩))⟩
      · intro k' hk'
        by_cases e : k' = k
        · rw [e, pk_us]
        · rw [pk_un (by rcases hst with rfl | rfl <;> omega)]
          exact ht.1 k' (by omega)
      · intro i h
        rw [pk_un (h k hk)]
        exact ht.2 i h
  · intro n k N hk hN IH
    refine br_f (nI_ge (b := 16) hk (by decide)) (cv_l16 hk hst hf hL hT ?_)
    intro v hv hq
    refine IH (upd N k v) ?_
    intro k' hk'
    by_cases e : k' = k
    · rw [e, pk_us]
      exact ⟨hv, hq⟩
    · rw [pk_un e]
      exact hN k' (by omega)
end
/-- a plane holds the numbers F -/
def cv_rep (t : Nat → Int32) (F : Nat → Nat → cv_Z) : Prop := ∀ y x, y < 16 → x < 16 → cv_rg (t (16 * y + x)) ∧ cv_q (t (16 * y + x)) = F y x
theorem cv_repE {t : Nat → Int32} {F G : Nat → Nat → cv_Z} (h : cv_rep t F) (e : ∀ y x, y < 16 → x < 16 → F y x = G y x) : cv_rep t G := by
  intro y x hy hx
  rw [← e y x hy hx]
  exact h y x hy hx
section
variable {fs fm fc fw : Int32} {aP aK aO aE aH aS aR aL aT aU aN aG aB aW : Nat → Int32}
variable {gs gm gw : Int32} {bP bK bR : Nat → Int32}
theorem cv_tfX {post : SX → Prop} {b : Int32} {U : Nat → cv_Z} {F : Nat → Nat → cv_Z} (hF : cv_rep aL F) (hT : cv_tb b aG aB U)
    (H : ∀ t N : Nat → Int32, cv_rep t (cv_tf U F) → post (fs, fm, fc, fw, aP, aK, aO, aE, aH, aS, aR, t, aT, aU, N, aG, aB, aW)) : wpX_transform post (fs, fm, fc, fw, aP, aK, aO, aE, aH, aS, aR, aL, aT, aU, aN, aG, aB, aW) b := by
  show ∃ n2 : Nat, wX_transform_2 post b n2 0 fs fm fc fw aP aK aO aE aH aS aR aL aT aU aN aG aB aW
  refine loop_0 (fun n i (s : (Nat → Int32) × (Nat → Int32)) => wX_transform_2 post b n (nI i) fs fm fc fw aP aK aO aE aH aS aR s.1 aT aU s.2 aG aB aW) (fun i s => cv_rep s.1 (fun y l => if y < i then cv_sm (fun x => F y x * U (l * x)) 16 else F y l)) 16 (aL, aN) (cv_repE hF (fun y x _ _ => (if_neg (Nat.not_lt_zero _)).symm)) ?_ ?_
  · intro n s hs
    refine br_t (nI_le (a := 16) (b := 16) (by decide) (by decide)) ?_
    have hG : cv_rep s.1 (fun y l => cv_sm (fun x => F y x * U (l * x)) 16) := cv_repE hs (fun y x hy _ => if_pos hy)
    refine loop_0 (fun n i (s : (Nat → Int32) × (Nat → Int32)) => wX_transform_26 post b n (nI i) fs fm fc fw aP aK aO aE aH aS aR s.1 aT aU s.2 aG aB aW) (fun i s => cv_rep s.1 (fun k l => if l < i then cv_tf U F k l else cv_sm (fun x => F k x * U (l * x)) 16)) 16 s (cv_repE hG (fun y x _ _ => (if_neg (Nat.not_lt_zero _)).symm)) ?_ ?_
    · intro n s hs
      exact br_t (nI_le (a := 16) (b := 16) (by decide) (by decide)) (H s.1 s.2 (cv_repE hs (fun y x _ hx => if_pos hx)))
    · intro n i s hi hs IH
      have hc : ∀ k, k < 16 → cv_rg (s.1 (i + k * 16)) ∧ cv_q (s.1 (i + k * 16)) = cv_sm (fun x => F k x * U (i * x)) 16 := by
        intro k hk
        have g := hs k i hk hi
        dsimp only at g
        rw [if_neg (Nat.lt_irrefl i), show 16 * k + i = i + k * 16 by omega] at g
        exact g
      refine br_f (nI_ge (b := 16) hi (by decide)) (cv_tlX (f := i) (st := 16) rfl rfl (Or.inr rfl) (by omega) (fun k hk => (hc k hk).1) hT ?_)
      intro t N h1 h2
      refine nm_r (nI_1 i) (IH (t, N) ?_)
      intro k l hk hl
      show cv_rg (t (16 * k + l)) ∧ cv_q (t (16 * k + l)) = if l < i + 1 then cv_tf U F k l else cv_sm (fun x => F k x * U (l * x)) 16
      by_cases e : l = i
      · rw [e, if_pos (by omega), show 16 * k + i = i + k * 16 by omega]
        refine ⟨(h1 k hk).1, (h1 k hk).2.trans ?_⟩
        unfold cv_tf
        refine zs_E 16 (fun y hy => ?_)
        rw [(hc y hy).2]
      · rw [h2 (16 * k + l) (fun k' hk' => by omega)]
        have g := hs k l hk hl
        dsimp only at g
        by_cases z : l < i
        · rw [if_pos z] at g
          rw [if_pos (by omega)]
          exact g
        · rw [if_neg z] at g
          rw [if_neg (by omega)]
          exact g
  · intro n i s hi hs IH
    have hc : ∀ x, x < 16 → cv_rg (s.1 (16 * i + x * 1)) ∧ cv_q (s.1 (16 * i + x * 1)) = F i x := by
      intro x hx
      have g := hs i x hi hx
      dsimp only at g
      rw [if_neg (Nat.lt_irrefl i), show 16 * i + x = 16 * i + x * 1 by omega] at g
      exact g
    refine br_f (nI_ge (b := 16) hi (by decide)) (cv_tlX (f := 16 * i) (st := 1) (pk_mul 16 i) rfl (Or.inl rfl) (by omega) (fun k hk => (hc k hk).1) hT ?_)
    intro t N h1 h2
    refine nm_r (nI_1 i) (IH (t, N) ?_)
    intro y l hy hl
    show cv_rg (t (16 * y + l)) ∧ cv_q (t (16 * y + l)) = if y < i + 1 then cv_sm (fun x => F y x * U (l * x)) 16 else F y l
    by_cases e : y = i
    · rw [e, if_pos (by omega), show 16 * i + l = 16 * i + l * 1 by omega]
      refine ⟨(h1 l hl).1, (h1 l hl).2.trans ?_⟩
      refine zs_E 16 (fun x hx => ?_)
      rw [(hc x hx).2]
    · rw [h2 (16 * y + l) (fun k' hk' => by omega)]
      have g := hs y l hy hl
      dsimp only at g
      by_cases z : y < i
      · rw [if_pos z] at g
        rw [if_pos (by omega)]
        exact g
      · rw [if_neg z] at g
        rw [if_neg (by omega)]
        exact g
end
end
section
/-! the transforms: the pure law -/
def cv_K (k : Nat → Int32) (c y x : Nat) : cv_Z := if y < 3 ∧ x < 3 then cv_q (k (9 * c + (3 * (2 - y) + (2 - x)))) else 0
def cv_P (p : Nat → Int32) (c y x : Nat) : cv_Z := cv_q (cv_pp p c x y)
def cv_n9 (Q : Nat → Nat → cv_Z) : cv_Z := (Q 0 0 + Q 0 1 + Q 0 2) + (Q 1 0 + Q 1 1 + Q 1 2) + (Q 2 0 + Q 2 1 + Q 2 2)
theorem cv_a9 (a b c d e f g h i : cv_Z) : 0 + (0 + a + b + c) + (0 + d + e + f) + (0 + g + h + i) = (i + h + g) + (f + e + d) + (c + b + a) := by grind
theorem cv_cv3 (k p : Nat → Int32) (c : Nat) {A B : Nat} (hA : A + 2 < 16) (hB : B + 2 < 16) : cv_sm (fun y => cv_sm (fun x => cv_K k c y x * cv_P p c ((A + 2 + 16 - y) % 16) ((B + 2 + 16 - x) % 16)) 16) 16 = cv_n9 (fun j i => cv_q (k (9 * c + (3 * j + i))) * cv_q (cv_pp p c (B + i) (A + j))) := by
  have row : ∀ y, y < 3 → cv_sm (fun x => cv_K k c y x * cv_P p c ((A + 2 + 16 - y) % 16) ((B + 2 + 16 - x) % 16)) 16 = cv_sm (fun x => (fun j i => cv_q (k (9 * c + (3 * j + i))) * cv_q (cv_pp p c (B + i) (A + j))) (2 - y) (2 - x)) 3 := by
    intro y hy
    rw [zs_C (m := 3) 16 (by decide)]
    · refine zs_E 3 (fun x hx => ?_)
      unfold cv_K cv_P
      rw [if_pos ⟨hy, hx⟩, show (A + 2 + 16 - y) % 16 = A + (2 - y) by omega, show (B + 2 + 16 - x) % 16 = B + (2 - x) by omega]
    · intro x h1 h2
      unfold cv_K
      rw [if_neg (by omega), zr_m0]
  rw [zs_C (m := 3) 16 (by decide), zs_E 3 row]
  · generalize (fun j i => cv_q (k (9 * c + (3 * j + i))) * cv_q (cv_pp p c (B + i) (A + j))) = Q
    show 0 + (0 + Q 2 2 + Q 2 1 + Q 2 0) + (0 + Q 1 2 + Q 1 1 + Q 1 0) + (0 + Q 0 2 + Q 0 1 + Q 0 0) = (Q 0 0 + Q 0 1 + Q 0 2) + (Q 1 0 + Q 1 1 + Q 1 2) + (Q 2 0 + Q 2 1 + Q 2 2)
    exact cv_a9 _ _ _ _ _ _ _ _ _
  · intro y h1 h2
    rw [← zs_0 16]
    refine zs_E 16 (fun x _ => ?_)
    unfold cv_K
    rw [if_neg (by omega), zr_m0]
theorem cv_s18 (Q : Nat → Nat → Nat → cv_Z) : cv_sm (fun j => Q (j / 9) (j % 9 / 3) (j % 3)) 18 = cv_n9 (Q 0) + cv_n9 (Q 1) := by
  show 0 + Q 0 0 0 + Q 0 0 1 + Q 0 0 2 + Q 0 1 0 + Q 0 1 1 + Q 0 1 2 + Q 0 2 0 + Q 0 2 1 + Q 0 2 2 + Q 1 0 0 + Q 1 0 1 + Q 1 0 2 + Q 1 1 0 + Q 1 1 1 + Q 1 1 2 + Q 1 2 0 + Q 1 2 1 + Q 1 2 2 = ((Q 0 0 0 + Q 0 0 1 + Q 0 0 2) + (Q 0 1 0 + Q 0 1 1 + Q 0 1 2) + (Q 0 2 0 + Q 0 2 1 + Q 0 2 2)) + ((Q 1 0 0 + Q 1 0 1 + Q 1 0 2) + (Q 1 1 0 + Q 1 1 1 + Q 1 1 2) + (Q 1 2 0 + Q 1 2 1 + Q 1 2 2))
  generalize Q 0 0 0 = a0, Q 0 0 1 = a1, Q 0 0 2 = a2, Q 0 1 0 = a3, Q 0 1 1 = a4, Q 0 1 2 = a5, Q 0 2 0 = a6, Q 0 2 1 = a7, Q 0 2 2 = a8, Q 1 0 0 = a9, Q 1 0 1 = a10, Q 1 0 2 = a11, Q 1 1 0 = a12, Q 1 1 1 = a13, Q 1 1 2 = a14, Q 1 2 0 = a15, Q 1 2 1 = a16, Q 1 2 2 = a17
  grind
theorem cv_qS {f : Nat → Int32} {B : Nat} : ∀ n, (∀ k, k < n → (f k).toInt.natAbs ≤ B) → n * B ≤ 1000000 → cv_q (cv_sum f n) = cv_sm (fun k => cv_q (f k)) n
  | 0, _, _ => cv_q0
  | n + 1, h, hB => by
    show cv_q (cv_sum f n + f n) = cv_sm (fun k => cv_q (f k)) n + cv_q (f n)
    rw [Nat.succ_mul] at hB
    have h1 := cv_bdS n (fun k hk => h k (by omega)) (by omega)
    have h2 := h n (by omega)
    rw [cv_qA (by omega) (by omega), cv_qS n (fun k hk => h k (by omega)) (by omega)]
theorem cv_tb1 {p k : Nat → Int32} (hp : ∀ j, j < 128 → -20 ≤ (p j).toInt ∧ (p j).toInt ≤ 20) (hk : ∀ j, j < 18 → -9 ≤ (k j).toInt ∧ (k j).toInt ≤ 9) {s m x y j : Nat} (hj : j < 18) : (cv_t p k s m x y j).toInt.natAbs ≤ 180 ∧ cv_q (cv_t p k s m x y j) = cv_q (k j) * cv_q (cv_pp p (j / 9) (s * x + j % 3 + 1 - m) (s * y + j % 9 / 3 + 1 - m)) := by
  have g := cv_bdM (hk j hj) (cv_ppr hp (c := j / 9) (by omega) (s * x + j % 3 + 1 - m) (s * y + j % 9 / 3 + 1 - m))
  refine ⟨g.1, ?_⟩
  unfold cv_t cv_q
  rw [g.2, cv_zM]
theorem cv_Rb {p k : Nat → Int32} (hp : ∀ j, j < 128 → -20 ≤ (p j).toInt ∧ (p j).toInt ≤ 20) (hk : ∀ j, j < 18 → -9 ≤ (k j).toInt ∧ (k j).toInt ≤ 9) {s m x y : Nat} : (cv_R p k s m x y).toInt.natAbs ≤ 3240 :=
  cv_bdS (B := 180) 18 (fun j hj => (cv_tb1 hp hk hj).1) (by decide)
theorem cv_Rq {p k : Nat → Int32} (hp : ∀ j, j < 128 → -20 ≤ (p j).toInt ∧ (p j).toInt ≤ 20) (hk : ∀ j, j < 18 → -9 ≤ (k j).toInt ∧ (k j).toInt ≤ 9) {s m x y : Nat} (hm : m = 0 ∨ m = 1) : cv_q (cv_R p k s m x y) = cv_n9 (fun j i => cv_q (k (9 * 0 + (3 * j + i))) * cv_q (cv_pp p 0 (s * x + 1 - m + i) (s * y + 1 - m + j))) + cv_n9 (fun j i => cv_q (k (9 * 1 + (3 * j + i))) * cv_q (cv_pp p 1 (s * x + 1 - m + i) (s * y + 1 - m + j))) := by
  unfold cv_R
  rw [cv_qS (B := 180) 18 (fun j hj => (cv_tb1 hp hk hj).1) (by decide)]
  have e : ∀ j, j < 18 → cv_q (cv_t p k s m x y j) = (fun c j i => cv_q (k (9 * c + (3 * j + i))) * cv_q (cv_pp p c (s * x + 1 - m + i) (s * y + 1 - m + j))) (j / 9) (j % 9 / 3) (j % 3) := by
    intro j hj
    rw [(cv_tb1 hp hk hj).2]
    show _ = cv_q (k (9 * (j / 9) + (3 * (j % 9 / 3) + j % 3))) * cv_q (cv_pp p (j / 9) (s * x + 1 - m + j % 3) (s * y + 1 - m + j % 9 / 3))
    rw [show 9 * (j / 9) + (3 * (j % 9 / 3) + j % 3) = j by omega, show s * x + 1 - m + j % 3 = s * x + j % 3 + 1 - m by omega, show s * y + 1 - m + j % 9 / 3 = s * y + j % 9 / 3 + 1 - m by omega]
  rw [zs_E 18 e]
  exact cv_s18 (fun c j i => cv_q (k (9 * c + (3 * j + i))) * cv_q (cv_pp p c (s * x + 1 - m + i) (s * y + 1 - m + j)))
theorem cv_256 : (16 : cv_Z) * 16 * cv_q 7651 = 1 := by decide
theorem cv_sc (a b s : cv_Z) (h : 16 * 16 * s = 1) : (a * 16 * 16 + b * 16 * 16) * s = a + b := by grind
/-- what the transforms give is the reference's sum -/
theorem cv_law {p k : Nat → Int32} (hp : ∀ j, j < 128 → -20 ≤ (p j).toInt ∧ (p j).toInt ≤ 20) (hk : ∀ j, j < 18 → -9 ≤ (k j).toInt ∧ (k j).toInt ≤ 9) {s m x y : Nat} (hm : m = 0 ∨ m = 1) (hx : s * x ≤ 7) (hy : s * y ≤ 7) :
    cv_tf cv_V (fun i l => 0 + cv_tf cv_W (cv_P p 0) i l * cv_tf cv_W (cv_K k 0) i l + cv_tf cv_W (cv_P p 1) i l * cv_tf cv_W (cv_K k 1) i l) (s * y + 3 - m) (s * x + 3 - m) * cv_q 7651 = cv_q (cv_R p k s m x y) := by
  rw [cv_tfE cv_V (g := fun i l => (fun i l => cv_tf cv_W (cv_K k 0) i l * cv_tf cv_W (cv_P p 0) i l) i l + (fun i l => cv_tf cv_W (cv_K k 1) i l * cv_tf cv_W (cv_P p 1) i l) i l) (fun i l _ _ => by
    show _ = cv_tf cv_W (cv_K k 0) i l * cv_tf cv_W (cv_P p 0) i l + cv_tf cv_W (cv_K k 1) i l * cv_tf cv_W (cv_P p 1) i l
    rw [zr_0a, zr_c (cv_tf cv_W (cv_P p 0) i l), zr_c (cv_tf cv_W (cv_P p 1) i l)]), cv_tfA]
  rw [show s * y + 3 - m = s * y + 1 - m + 2 by omega, show s * x + 3 - m = s * x + 1 - m + 2 by omega]
  rw [cv_cv2 (cv_K k 0) (cv_P p 0) (by omega) (by omega), cv_cv2 (cv_K k 1) (cv_P p 1) (by omega) (by omega), cv_cv3 k p 0 (by omega) (by omega), cv_cv3 k p 1 (by omega) (by omega), cv_sc _ _ _ cv_256, cv_Rq hp hk hm]
/-- the number nearest to zero -/
theorem cv_ctr {v r : Int32} (hv : cv_rg v) (hq : cv_q v = cv_q r) (hr : r.toInt.natAbs ≤ 3240) : (v ≤ 3840 → v = r) ∧ (¬ v ≤ 3840 → v - 7681 = r) := by
  have h := cv_zI hq
  unfold cv_rg at hv
  constructor
  · intro z
    rw [Int32.le_iff_toInt_le, show (3840 : Int32).toInt = 3840 from rfl] at z
    apply Int32.toInt_inj.mp
    omega
  · intro z
    rw [Int32.le_iff_toInt_le, show (3840 : Int32).toInt = 3840 from rfl] at z
    apply Int32.toInt_inj.mp
    rw [Jvm.Kit.i32_sub (by rw [cv_p7]; omega) (by rw [cv_p7]; omega), cv_p7]
    omega
end
section
/-! clearPlane, reduce, addTransformed -/
theorem cv_rep0 {t : Nat → Int32} (h : ∀ k, k < 256 → t k = 0) : cv_rep t (fun _ _ => 0) := by
  intro y x hy hx
  rw [h _ (by omega)]
  exact ⟨cv_rg0, cv_q0⟩
theorem cv_repU {t : Nat → Int32} {F G : Nat → Nat → cv_Z} {y x : Nat} {r : Int32} {z : cv_Z} (h : cv_rep t F) (hx : x < 16) (hr : cv_rg r) (hq : cv_q r = z) (hG : ∀ y' x', y' < 16 → x' < 16 → G y' x' = if y' = y ∧ x' = x then z else F y' x') : cv_rep (upd t (16 * y + x) r) G := by
  intro y' x' hy' hx'
  rw [hG y' x' hy' hx']
  by_cases e : y' = y ∧ x' = x
  · rw [if_pos e, e.1, e.2, pk_us]
    exact ⟨hr, hq⟩
  · rw [if_neg e, pk_un (by omega)]
    exact h y' x' hy' hx'
theorem cv_repC {t u : Nat → Int32} {F : Nat → Nat → cv_Z} (h : cv_rep t F) (e : ∀ k, k < 256 → u k = t k) : cv_rep u F := by
  intro y x hy hx
  rw [e _ (by omega)]
  exact h y x hy hx
theorem cv_repR {t : Nat → Int32} {F : Nat → Nat → cv_Z} (h : cv_rep t F) {k : Nat} (hk : k < 256) : cv_rg (t k) := by
  have g := (h (k / 16) (k % 16) (by omega) (by omega)).1
  rw [show 16 * (k / 16) + k % 16 = k by omega] at g
  exact g
theorem cv_pp0 {p : Nat → Int32} {c X Y : Nat} (h : ¬ (1 ≤ X ∧ X ≤ 8 ∧ 1 ≤ Y ∧ Y ≤ 8)) : cv_P p c Y X = 0 := by
  unfold cv_P cv_pp
  rw [if_neg h]
  exact cv_q0
theorem cv_mt {u x y : Int32} (hu : cv_rg u) (hx : cv_rg x) (hy : cv_rg y) : cv_rg (u + x * y - (u + x * y) / 7681 * 7681) ∧ cv_q (u + x * y - (u + x * y) / 7681 * 7681) = cv_q u + cv_q x * cv_q y := by
  have h := cv_mmI hx hy
  unfold cv_rg at hu
  have e : (u + x * y).toInt = u.toInt + (x * y).toInt := Jvm.Kit.i32_add (by omega) (by omega)
  have g := cv_rm (x := u + x * y) (by omega)
  refine ⟨g.1, g.2.trans ?_⟩
  rw [cv_qA (by omega) (by omega)]
  unfold cv_q
  rw [h.1, cv_zM]
section
variable {fs fm fc fw : Int32} {aP aK aO aE aH aS aR aL aT aU aN aG aB aW : Nat → Int32}
variable {gs gm gw : Int32} {bP bK bR : Nat → Int32}
theorem cv_cpX {post : SX → Prop} (H : ∀ t : Nat → Int32, (∀ k, k < 256 → t k = 0) → post (fs, fm, fc, fw, aP, aK, aO, aE, aH, aS, aR, t, aT, aU, aN, aG, aB, aW)) : wpX_clearPlane post (fs, fm, fc, fw, aP, aK, aO, aE, aH, aS, aR, aL, aT, aU, aN, aG, aB, aW) := by
  show ∃ n2 : Nat, wX_clearPlane_2 post fs fm fc fw n2 0 aP aK aO aE aH aS aR aL aT aU aN aG aB aW
  refine loop_0 (fun n i (t : Nat → Int32) => wX_clearPlane_2 post fs fm fc fw n (nI i) aP aK aO aE aH aS aR t aT aU aN aG aB aW) (fun i t => ∀ k, k < i → t k = 0) 256 aL (fun k h => absurd h (Nat.not_lt_zero _)) ?_ ?_
  · intro n t ht
    exact br_t (nI_le (a := 256) (b := 256) (by decide) (by decide)) (H t ht)
  · intro n i t hi ht IH
    refine br_f (nI_ge (b := 256) hi (by decide)) ⟨vp_in_nI hi (by decide), nm_r (by rw [nI_clamp (by omega)]) (nm_r (nI_1 i) (IH _ ?_))⟩
    intro k hk
    by_cases e : k = i
    · rw [e, pk_us]
    · rw [pk_un e]
      exact ht k (by omega)
theorem cv_reX {post : Int32 → Prop} {v : Int32} (h1 : -7681 < v.toInt) (h2 : v.toInt < 7681) (H : ∀ r, cv_rg r → cv_q r = cv_q v → post r) : wpX_reduce post (fs, fm, fc, fw, aP, aK, aO, aE, aH, aS, aR, aL, aT, aU, aN, aG, aB, aW) v := by
  refine And.intro (by decide) (nm_r (cv_redI v h1 h2) ?_)
  by_cases h0 : 0 ≤ v
  · have h0' : 0 ≤ v.toInt := Int32.le_iff_toInt_le.mp h0
    exact br_t h0 (H v ⟨h0', h2⟩ rfl)
  · have h0' : ¬ 0 ≤ v.toInt := fun z => h0 (Int32.le_iff_toInt_le.mpr z)
    have e : (v + 7681).toInt = v.toInt + 7681 := by
      rw [Jvm.Kit.i32_add (by rw [cv_p7]; omega) (by rw [cv_p7]; omega), cv_p7]
    refine br_f h0 (H (v + 7681) ?_ ?_)
    · unfold cv_rg
      rw [e]
      omega
    · unfold cv_q
      rw [e]
      exact cv_zE (by omega)
/-- the last loop: the products are added -/
theorem cv_170 {post : SX → Prop} {T F G : Nat → Nat → cv_Z} (hU : cv_rep aU T) (hF : cv_rep aL F) (hG : cv_rep aT G)
    (H : ∀ u : Nat → Int32, cv_rep u (fun k l => T k l + F k l * G k l) → post (fs, fm, fc, fw, aP, aK, aO, aE, aH, aS, aR, aL, aT, u, aN, aG, aB, aW)) : ∃ n : Nat, wX_addTransformed_170 post fs fm fc fw n 0 aP aK aO aE aH aS aR aL aT aU aN aG aB aW := by
  refine loop_0 (fun n i (t : Nat → Int32) => wX_addTransformed_170 post fs fm fc fw n (nI i) aP aK aO aE aH aS aR aL aT t aN aG aB aW) (fun i t => (∀ k, k < i → cv_rg (t k) ∧ cv_q (t k) = cv_q (aU k) + cv_q (aL k) * cv_q (aT k)) ∧ (∀ k, i ≤ k → t k = aU k)) 256 aU ⟨fun k h => absurd h (Nat.not_lt_zero _), fun k _ => rfl⟩ ?_ ?_
  · intro n t ht
    refine br_t (nI_le (a := 256) (b := 256) (by decide) (by decide)) (H t ?_)
    intro y x hy hx
    have g := ht.1 (16 * y + x) (by omega)
    rw [(hU y x hy hx).2, (hF y x hy hx).2, (hG y x hy hx).2] at g
    exact g
  · intro n i t hi ht IH
    have hin : vp_in (nI i) 256 := vp_in_nI hi (by decide)
    have ecl : (nI i).toNatClampNeg = i := nI_clamp (by omega)
    have g := cv_mt (cv_repR hU hi) (cv_repR hF hi) (cv_repR hG hi)
    refine br_f (nI_ge (b := 256) hi (by decide)) ⟨hin, hin, hin, by decide, hin, nm_r (e' := upd t i (aU i + aL i * aT i - (aU i + aL i * aT i) / 7681 * 7681)) (by rw [ecl, ht.2 i (Nat.le_refl i)]) (nm_r (nI_1 i) (IH _ ⟨?_, ?_⟩))⟩
    · intro k hk
      by_cases e : k = i
      · rw [e, pk_us]
        exact g
      · rw [pk_un e]
        exact ht.1 k (by omega)
    · intro k hk
      rw [pk_un (by omega)]
      exact ht.2 k (by omega)
/-- the picture is laid into the plane, transformed, multiplied -/
theorem cv_102 {post : SX → Prop} {c : Nat} {T G : Nat → Nat → cv_Z} (hc : c < 2) (hp : ∀ j, j < 128 → -20 ≤ (aP j).toInt ∧ (aP j).toInt ≤ 20) (hR : ∀ j, j < 16 → aG j = nI (cv_root.getD j 0))
    (hU : cv_rep aU T) (hG : cv_rep aT G) (h0 : ∀ k, k < 256 → aL k = 0)
    (H : ∀ l n u : Nat → Int32, cv_rep u (fun i l => T i l + cv_tf cv_W (cv_P aP c) i l * G i l) → post (fs, fm, fc, fw, aP, aK, aO, aE, aH, aS, aR, l, aT, u, n, aG, aB, aW)) : ∃ n : Nat, wX_addTransformed_102 post (nI c) fs fm fc fw n 0 aP aK aO aE aH aS aR aL aT aU aN aG aB aW := by
  refine loop_0 (fun n y (t : Nat → Int32) => wX_addTransformed_102 post (nI c) fs fm fc fw n (nI y) aP aK aO aE aH aS aR t aT aU aN aG aB aW) (fun y t => cv_rep t (fun Y X => if Y < y + 1 then cv_P aP c Y X else 0)) 8 aL (cv_repE (cv_rep0 h0) (fun Y X _ _ => by
    by_cases z : Y < 0 + 1
    · rw [if_pos z, cv_pp0 (by omega)]
    · rw [if_neg z])) ?_ ?_
  · intro n t ht
    refine br_t (nI_le (a := 8) (b := 8) (by decide) (by decide)) ?_
    have hF : cv_rep t (cv_P aP c) := cv_repE ht (fun Y X _ _ => by
      by_cases z : Y < 8 + 1
      · rw [if_pos z]
      · rw [if_neg z, cv_pp0 (by omega)])
    refine cv_tfX hF (cv_tbW hR) ?_
    intro l nn hl
    exact cv_170 hU hl hG (fun u hu => H l nn u hu)
  · intro n y t hy ht IH
    refine br_f (nI_ge (b := 8) hy (by decide)) ?_
    refine loop_0 (fun n' x (t : Nat → Int32) => wX_addTransformed_110 post (wX_addTransformed_102 post (nI c) fs fm fc fw n) (nI c) (nI y) fs fm fc fw n' (nI x) aP aK aO aE aH aS aR t aT aU aN aG aB aW) (fun x t => cv_rep t (fun Y X => if Y < y + 1 ∨ (Y = y + 1 ∧ X < x + 1) then cv_P aP c Y X else 0)) 8 t (cv_repE ht (fun Y X _ _ => by
      by_cases z : Y < y + 1
      · rw [if_pos z, if_pos (Or.inl z)]
      · rw [if_neg z]
        by_cases z2 : Y = y + 1 ∧ X < 0 + 1
        · rw [if_pos (Or.inr z2), cv_pp0 (by omega)]
        · rw [if_neg (by omega)])) ?_ ?_
    · intro n' t ht
      refine br_t (nI_le (a := 8) (b := 8) (by decide) (by decide)) (nm_r (nI_1 y) (IH t (cv_repE ht (fun Y X _ _ => ?_))))
      by_cases z : Y < y + 1 + 1
      · rw [if_pos z]
        by_cases z2 : Y < y + 1 ∨ (Y = y + 1 ∧ X < 8 + 1)
        · rw [if_pos z2]
        · rw [if_neg z2, cv_pp0 (by omega)]
      · rw [if_neg z, if_neg (by omega)]
    · intro n' x t hx ht IH2
      have ei : 16 * (nI y + 1) + nI x + 1 = nI (16 * (y + 1) + (x + 1)) := by
        rw [nI_1]
        show nI 16 * nI (y + 1) + nI x + 1 = _
        rw [pk_mul, nI_add, nI_1, Nat.add_assoc]
      have ep : cv_P aP c (y + 1) (x + 1) = cv_q (aP (64 * c + 8 * y + x)) := by
        unfold cv_P cv_pp
        rw [if_pos (by omega), Nat.add_sub_cancel, Nat.add_sub_cancel]
      have hb := hp (64 * c + 8 * y + x) (by omega)
      refine br_f (nI_ge (b := 8) hx (by decide)) ⟨pk_in (64 * c + 8 * y + x) 128 (by omega) (cv_x64 c y x), ?_⟩
      rw [pk_cl (64 * c + 8 * y + x) (cv_x64 c y x) (by omega)]
      refine cv_reX (by omega) (by omega) ?_
      intro r hr hq
      refine ⟨pk_in (16 * (y + 1) + (x + 1)) 256 (by omega) ei, nm_r (e' := upd t (16 * (y + 1) + (x + 1)) r) (by rw [pk_cl _ ei (by omega)]) (nm_r (nI_1 x) (IH2 _ (cv_repU ht (by omega) hr (hq.trans ep.symm) ?_)))⟩
      intro Y X _ _
      by_cases e : Y = y + 1 ∧ X = x + 1
      · rw [if_pos e, if_pos (by omega), e.1, e.2]
      · rw [if_neg e]
        by_cases z : Y < y + 1 ∨ (Y = y + 1 ∧ X < x + 1)
        · rw [if_pos z, if_pos (by omega)]
        · rw [if_neg z, if_neg (by omega)]
theorem cv_71 {post : SX → Prop} {c : Nat} {T G : Nat → Nat → cv_Z} (hc : c < 2) (hp : ∀ j, j < 128 → -20 ≤ (aP j).toInt ∧ (aP j).toInt ≤ 20) (hR : ∀ j, j < 16 → aG j = nI (cv_root.getD j 0))
    (hU : cv_rep aU T) (hG : cv_rep aL G)
    (H : ∀ l o n u : Nat → Int32, cv_rep u (fun i l => T i l + cv_tf cv_W (cv_P aP c) i l * G i l) → post (fs, fm, fc, fw, aP, aK, aO, aE, aH, aS, aR, l, o, u, n, aG, aB, aW)) : ∃ n : Nat, wX_addTransformed_71 post (nI c) fs fm fc fw n 0 aP aK aO aE aH aS aR aL aT aU aN aG aB aW := by
  refine loop_0 (fun n i (t : Nat → Int32) => wX_addTransformed_71 post (nI c) fs fm fc fw n (nI i) aP aK aO aE aH aS aR aL t aU aN aG aB aW) (fun i t => ∀ k, k < i → t k = aL k) 256 aT (fun k h => absurd h (Nat.not_lt_zero _)) ?_ ?_
  · intro n t ht
    refine br_t (nI_le (a := 256) (b := 256) (by decide) (by decide)) (cv_cpX ?_)
    intro l hl
    exact cv_102 hc hp hR hU (cv_repC hG ht) hl (fun l' n' u hu => H l' t n' u hu)
  · intro n i t hi ht IH
    have hin : vp_in (nI i) 256 := vp_in_nI hi (by decide)
    refine br_f (nI_ge (b := 256) hi (by decide)) ⟨hin, hin, nm_r (by rw [nI_clamp (by omega)]) (nm_r (nI_1 i) (IH _ ?_))⟩
    intro k hk
    by_cases e : k = i
    · rw [e, pk_us]
    · rw [pk_un e]
      exact ht k (by omega)
theorem cv_atrX {post : SX → Prop} {c : Nat} {p : Int32} {T : Nat → Nat → cv_Z} (epc : p = nI c) (hc : c < 2) (hp : ∀ j, j < 128 → -20 ≤ (aP j).toInt ∧ (aP j).toInt ≤ 20) (hk : ∀ j, j < 18 → -9 ≤ (aK j).toInt ∧ (aK j).toInt ≤ 9) (hR : ∀ j, j < 16 → aG j = nI (cv_root.getD j 0))
    (hU : cv_rep aU T)
    (H : ∀ l o n u : Nat → Int32, cv_rep u (fun i l => T i l + cv_tf cv_W (cv_P aP c) i l * cv_tf cv_W (cv_K aK c) i l) → post (fs, fm, fc, fw, aP, aK, aO, aE, aH, aS, aR, l, o, u, n, aG, aB, aW)) : wpX_addTransformed post (fs, fm, fc, fw, aP, aK, aO, aE, aH, aS, aR, aL, aT, aU, aN, aG, aB, aW) p := by
  subst epc
  unfold wpX_addTransformed
  refine cv_cpX ?_
  intro l0 hl0
  refine loop_0 (fun n j (t : Nat → Int32) => wX_addTransformed_6 post (nI c) fs fm fc fw n (nI j) aP aK aO aE aH aS aR t aT aU aN aG aB aW) (fun j t => cv_rep t (fun y x => if y < 3 ∧ x < 3 ∧ 2 - y < j then cv_q (aK (9 * c + (3 * (2 - y) + (2 - x)))) else 0)) 3 l0 (cv_repE (cv_rep0 hl0) (fun y x _ _ => by rw [if_neg (by omega)])) ?_ ?_
  · intro n t ht
    refine br_t (nI_le (a := 3) (b := 3) (by decide) (by decide)) ?_
    have hF : cv_rep t (cv_K aK c) := cv_repE ht (fun y x _ _ => by
      unfold cv_K
      by_cases z : y < 3 ∧ x < 3
      · rw [if_pos z, if_pos (by omega)]
      · rw [if_neg z, if_neg (by omega)])
    refine cv_tfX hF (cv_tbW hR) ?_
    intro l nn hl
    exact cv_71 hc hp hR hU hl (fun l' o' n' u hu => H l' o' n' u hu)
  · intro n j t hj ht IH
    refine br_f (nI_ge (b := 3) hj (by decide)) ?_
    refine loop_0 (fun n' i (t : Nat → Int32) => wX_addTransformed_13 post (wX_addTransformed_6 post (nI c) fs fm fc fw n) (nI c) (nI j) fs fm fc fw n' (nI i) aP aK aO aE aH aS aR t aT aU aN aG aB aW) (fun i t => cv_rep t (fun y x => if y < 3 ∧ x < 3 ∧ (2 - y < j ∨ (2 - y = j ∧ 2 - x < i)) then cv_q (aK (9 * c + (3 * (2 - y) + (2 - x)))) else 0)) 3 t (cv_repE ht (fun y x _ _ => by
      by_cases z : y < 3 ∧ x < 3 ∧ 2 - y < j
      · rw [if_pos z, if_pos (by omega)]
      · rw [if_neg z, if_neg (by omega)])) ?_ ?_
    · intro n' t ht
      refine br_t (nI_le (a := 3) (b := 3) (by decide) (by decide)) (nm_r (nI_1 j) (IH t (cv_repE ht (fun y x _ _ => ?_))))
      by_cases z : y < 3 ∧ x < 3 ∧ 2 - y < j + 1
      · rw [if_pos z, if_pos (by omega)]
      · rw [if_neg z, if_neg (by omega)]
    · intro n' i t hi ht IH2
      have ek : 9 * nI c + 3 * nI j + nI i = nI (9 * c + (3 * j + i)) := by
        show nI 9 * nI c + nI 3 * nI j + nI i = _
        rw [pk_mul, pk_mul, nI_add, nI_add, Nat.add_assoc]
      have ei : 16 * (2 - nI j) + 2 - nI i = nI (16 * (2 - j) + (2 - i)) := by
        show nI 16 * (nI 2 - nI j) + nI 2 - nI i = _
        rw [pk_sub (by omega), pk_mul, nI_add, pk_sub (by omega)]
        exact congrArg nI (by omega)
      have hb := hk (9 * c + (3 * j + i)) (by omega)
      refine br_f (nI_ge (b := 3) hi (by decide)) ⟨pk_in (9 * c + (3 * j + i)) 18 (by omega) ek, ?_⟩
      rw [pk_cl (9 * c + (3 * j + i)) ek (by omega)]
      refine cv_reX (by omega) (by omega) ?_
      intro r hr hq
      refine ⟨pk_in (16 * (2 - j) + (2 - i)) 256 (by omega) ei, nm_r (e' := upd t (16 * (2 - j) + (2 - i)) r) (by rw [pk_cl _ ei (by omega)]) (nm_r (nI_1 i) (IH2 _ (cv_repU ht (by omega) hr hq ?_)))⟩
      intro y x _ _
      by_cases e : y = 2 - j ∧ x = 2 - i
      · rw [if_pos e, if_pos (by omega), show 3 * (2 - y) + (2 - x) = 3 * j + i by omega]
      · rw [if_neg e]
        by_cases z : y < 3 ∧ x < 3 ∧ (2 - y < j ∨ (2 - y = j ∧ 2 - x < i))
        · rw [if_pos z, if_pos (by omega)]
        · rw [if_neg z, if_neg (by omega)]
end
end
section
/-! moveByTransforms -/
theorem cv_w7 {s m y : Nat} (hs : s = 1 ∨ s = 2) (hm : m = 0 ∨ m = 1) (hy : y < cv_w s m) : s * y ≤ 7 := by
  rcases hs with rfl | rfl <;> rcases hm with rfl | rfl <;> unfold cv_w at hy <;> omega
section
variable {fs fm fc fw : Int32} {aP aK aO aE aH aS aR aL aT aU aN aG aB aW : Nat → Int32}
variable {gs gm gw : Int32} {bP bK bR : Nat → Int32}
theorem cv_77 {post : SX → Prop} {s m : Nat} (hs : s = 1 ∨ s = 2) (hm : m = 0 ∨ m = 1) (hp : ∀ j, j < 128 → -20 ≤ (aP j).toInt ∧ (aP j).toInt ≤ 20) (hk : ∀ j, j < 18 → -9 ≤ (aK j).toInt ∧ (aK j).toInt ≤ 9)
    (hL : cv_rep aL (cv_tf cv_V (fun i l => 0 + cv_tf cv_W (cv_P aP 0) i l * cv_tf cv_W (cv_K aK 0) i l + cv_tf cv_W (cv_P aP 1) i l * cv_tf cv_W (cv_K aK 1) i l)))
    (H : ∀ o : Nat → Int32, (∀ j, j % 8 < cv_w s m → j / 8 < cv_w s m → o j = cv_R aP aK s m (j % 8) (j / 8)) → post (nI s, nI m, fc, nI (cv_w s m), aP, aK, o, aE, aH, aS, aR, aL, aT, aU, aN, aG, aB, aW)) :
    ∃ n : Nat, wX_moveByTransforms_77 post 7651 (nI s) (nI m) fc (nI (cv_w s m)) n 0 aP aK aO aE aH aS aR aL aT aU aN aG aB aW := by
  have h7 : ∀ y, y < cv_w s m → s * y ≤ 7 := fun y => cv_w7 hs hm
  have hw := cv_w8 hs hm
  generalize cv_w s m = w at H hw h7
  refine loop_0 (fun n y (o : Nat → Int32) => wX_moveByTransforms_77 post 7651 (nI s) (nI m) fc (nI w) n (nI y) aP aK o aE aH aS aR aL aT aU aN aG aB aW) (fun y o => ∀ j, j % 8 < w → j / 8 < y → o j = cv_R aP aK s m (j % 8) (j / 8)) w aO (fun j _ h => absurd h (Nat.not_lt_zero _)) ?_ ?_
  · intro n o ho
    exact br_t (nI_le (Nat.le_refl w) (by omega)) (H o ho)
  · intro n y o hy ho IH
    refine br_f (nI_ge hy (by omega)) ?_
    refine loop_0 (fun n' x (o : Nat → Int32) => wX_moveByTransforms_87 post (wX_moveByTransforms_77 post 7651 (nI s) (nI m) fc (nI w) n) 7651 (nI y) (nI s) (nI m) fc (nI w) n' (nI x) aP aK o aE aH aS aR aL aT aU aN aG aB aW) (fun x o => ∀ j, j % 8 < w → (j / 8 < y ∨ (j / 8 = y ∧ j % 8 < x)) → o j = cv_R aP aK s m (j % 8) (j / 8)) w o (fun j h1 h2 => ho j h1 (by omega)) ?_ ?_
    · intro n' t ht
      exact br_t (nI_le (Nat.le_refl w) (by omega)) (nm_r (nI_1 y) (IH t (fun j h1 h2 => ht j h1 (by omega))))
    · intro n' x t hx ht IH2
      have sx := h7 x hx
      have sy := h7 y hy
      have ea : 16 * (nI s * nI y + 3 - nI m) + nI s * nI x + 3 - nI m = nI (16 * (s * y + 3 - m) + (s * x + 3 - m)) := by
        show nI 16 * (nI s * nI y + nI 3 - nI m) + nI s * nI x + nI 3 - nI m = _
        rw [pk_mul s y, nI_add, pk_sub (by omega), pk_mul 16, pk_mul s x, nI_add, nI_add, pk_sub (by omega)]
        exact congrArg nI (by omega)
      have hin : vp_in (8 * nI y + nI x) 64 := pk_in (8 * y + x) 64 (by omega) (cv_x8 y x)
      have ecl : (8 * nI y + nI x).toNatClampNeg = 8 * y + x := pk_cl (8 * y + x) (cv_x8 y x) (by omega)
      have hLa := hL (s * y + 3 - m) (s * x + 3 - m) (by omega) (by omega)
      have g7 : cv_rg (7651 : Int32) := cv_rgn (n := 7651) (by decide)
      have gm := cv_mm hLa.1 g7
      have ct := cv_ctr gm.1 (gm.2.trans (by rw [hLa.2]; exact cv_law hp hk hm sx sy)) (cv_Rb hp hk)
      have fin : ∀ j, j % 8 < w → (j / 8 < y ∨ (j / 8 = y ∧ j % 8 < x + 1)) → upd t (8 * y + x) (cv_R aP aK s m x y) j = cv_R aP aK s m (j % 8) (j / 8) := by
        intro j h1 h2
        by_cases e : j = 8 * y + x
        · rw [e, pk_us, show (8 * y + x) % 8 = x by omega, show (8 * y + x) / 8 = y by omega]
        · rw [pk_un e]
          exact ht j h1 (by omega)
      refine br_f (nI_ge hx (by omega)) (nm_r ea ⟨vp_in_nI (by omega) (by decide), by decide, nm_r (e' := aL (16 * (s * y + 3 - m) + (s * x + 3 - m)) * 7651 - aL (16 * (s * y + 3 - m) + (s * x + 3 - m)) * 7651 / 7681 * 7681) (by rw [nI_clamp (by omega)]) (br_c ?_ ?_)⟩)
      · intro z
        exact ⟨hin, nm_r (e' := upd t (8 * y + x) (cv_R aP aK s m x y)) (by rw [ecl, ct.1 z]) (nm_r (nI_1 x) (IH2 _ fin))⟩
      · intro z
        exact ⟨hin, nm_r (e' := upd t (8 * y + x) (cv_R aP aK s m x y)) (by rw [ecl, ct.2 z]) (nm_r (nI_1 x) (IH2 _ fin))⟩
theorem cv_mrX {post : SX → Prop} {s m : Nat} (hs : s = 1 ∨ s = 2) (hm : m = 0 ∨ m = 1) (hp : ∀ j, j < 128 → -20 ≤ (aP j).toInt ∧ (aP j).toInt ≤ 20) (hk : ∀ j, j < 18 → -9 ≤ (aK j).toInt ∧ (aK j).toInt ≤ 9)
    (hR : ∀ j, j < 16 → aG j = nI (cv_root.getD j 0)) (hB : ∀ j, j < 16 → aB j = nI (cv_back.getD j 0))
    (H : ∀ o l t u n : Nat → Int32, (∀ j, j % 8 < cv_w s m → j / 8 < cv_w s m → o j = cv_R aP aK s m (j % 8) (j / 8)) → post (nI s, nI m, fc, nI (cv_w s m), aP, aK, o, aE, aH, aS, aR, l, t, u, n, aG, aB, aW)) :
    wpX_moveByTransforms post (nI s, nI m, fc, nI (cv_w s m), aP, aK, aO, aE, aH, aS, aR, aL, aT, aU, aN, aG, aB, aW) := by
  show ∃ n2 : Nat, wX_moveByTransforms_2 post (nI s) (nI m) fc (nI (cv_w s m)) n2 0 aP aK aO aE aH aS aR aL aT aU aN aG aB aW
  refine loop_0 (fun n i (t : Nat → Int32) => wX_moveByTransforms_2 post (nI s) (nI m) fc (nI (cv_w s m)) n (nI i) aP aK aO aE aH aS aR aL aT t aN aG aB aW) (fun i t => ∀ k, k < i → t k = 0) 256 aU (fun k h => absurd h (Nat.not_lt_zero _)) ?_ ?_
  · intro n t ht
    refine br_t (nI_le (a := 256) (b := 256) (by decide) (by decide)) (cv_atrX (c := 0) rfl (by decide) hp hk hR (cv_rep0 ht) ?_)
    intro l1 o1 n1 u1 hu1
    refine cv_atrX (c := 1) rfl (by decide) hp hk hR hu1 ?_
    intro l2 o2 n2 u2 hu2
    refine loop_0 (fun n i (t : Nat → Int32) => wX_moveByTransforms_34 post (nI s) (nI m) fc (nI (cv_w s m)) n (nI i) aP aK aO aE aH aS aR t o2 u2 n2 aG aB aW) (fun i t => ∀ k, k < i → t k = u2 k) 256 l2 (fun k h => absurd h (Nat.not_lt_zero _)) ?_ ?_
    · intro n t ht
      refine br_t (nI_le (a := 256) (b := 256) (by decide) (by decide)) (cv_tfX (cv_repC hu2 ht) (cv_tbV hB) ?_)
      intro l3 n3 hl3
      refine cv_powX cv_pw3 ?_
      exact cv_77 hs hm hp hk hl3 (fun o ho => H o l3 o2 u2 n3 ho)
    · intro n i t hi ht IH
      have hin : vp_in (nI i) 256 := vp_in_nI hi (by decide)
      refine br_f (nI_ge (b := 256) hi (by decide)) ⟨hin, hin, nm_r (by rw [nI_clamp (by omega)]) (nm_r (nI_1 i) (IH _ ?_))⟩
      intro k hk
      by_cases e : k = i
      · rw [e, pk_us]
      · rw [pk_un e]
        exact ht k (by omega)
  · intro n i t hi ht IH
    refine br_f (nI_ge (b := 256) hi (by decide)) ⟨vp_in_nI hi (by decide), nm_r (by rw [nI_clamp (by omega)]) (nm_r (nI_1 i) (IH _ ?_))⟩
    intro k hk
    by_cases e : k = i
    · rw [e, pk_us]
    · rw [pk_un e]
      exact ht k (by omega)
end
end
section
/-! move -/
section
variable {fs fm fc fw : Int32} {aP aK aO aE aH aS aR aL aT aU aN aG aB aW : Nat → Int32}
variable {gs gm gw : Int32} {bP bK bR : Nat → Int32}
theorem cv_47 {post : Int32 → SX → Prop} {s m : Nat} (hs : s = 1 ∨ s = 2) (hm : m = 0 ∨ m = 1) (hp : ∀ j, j < 128 → -20 ≤ (aP j).toInt ∧ (aP j).toInt ≤ 20) (hk : ∀ j, j < 18 → -9 ≤ (aK j).toInt ∧ (aK j).toInt ≤ 9)
    (hR : ∀ j, j < 16 → aG j = nI (cv_root.getD j 0)) (hB : ∀ j, j < 16 → aB j = nI (cv_back.getD j 0)) (h0 : ∀ j, j < 64 → aO j = 0)
    (H : ∀ oO oE oH oS oR oL oT oU oN oW : Nat → Int32, (∀ j, j % 8 < cv_w s m → j / 8 < cv_w s m → oO j = cv_R aP aK s m (j % 8) (j / 8)) → post (nI (cv_w s m)) (nI s, nI m, fc, nI (cv_w s m), aP, aK, oO, oE, oH, oS, oR, oL, oT, oU, oN, aG, aB, oW)) (z : Int32) :
    wX_move_47 post z (nI s) (nI m) fc (nI (cv_w s m)) aP aK aO aE aH aS aR aL aT aU aN aG aB aW := by
  have h68 : wX_move_68 post z (nI s) (nI m) fc (nI (cv_w s m)) aP aK aO aE aH aS aR aL aT aU aN aG aB aW := by
    refine br_c ?_ ?_
    · intro _
      refine cv_mrX hs hm hp hk hR hB ?_
      intro o l t u n ho
      exact H o _ _ _ _ l t u n _ ho
    · intro _
      refine cv_wiX hs hm (cv_w8 hs hm) h0 ?_
      intro o t ho
      exact H o _ _ _ _ _ _ _ _ t ho
  refine br_c ?_ (fun _ => h68)
  intro _
  refine br_c ?_ (fun _ => h68)
  intro e
  have s1 : s = 1 := by
    rcases hs with h | h
    · exact h
    · subst h
      exact absurd e (by decide)
  subst s1
  have hh : ∃ h, cv_w 1 m = 2 * h := by
    rcases hm with rfl | rfl
    · exact ⟨3, rfl⟩
    · exact ⟨4, rfl⟩
  obtain ⟨h, eh⟩ := hh
  refine cv_mtX hm eh (cv_w8 hs hm) hp hk h0 ?_
  intro o e hf sh r ho
  exact H o e hf sh r _ _ _ _ _ ho
theorem cv_mvX {post : Int32 → SX → Prop} {s m : Nat} (hs : s = 1 ∨ s = 2) (hm : m = 0 ∨ m = 1) (hp : ∀ j, j < 128 → -20 ≤ (aP j).toInt ∧ (aP j).toInt ≤ 20) (hk : ∀ j, j < 18 → -9 ≤ (aK j).toInt ∧ (aK j).toInt ≤ 9)
    (hR : ∀ j, j < 16 → aG j = nI (cv_root.getD j 0)) (hB : ∀ j, j < 16 → aB j = nI (cv_back.getD j 0))
    (H : ∀ oO oE oH oS oR oL oT oU oN oW : Nat → Int32, (∀ j, j % 8 < cv_w s m → j / 8 < cv_w s m → oO j = cv_R aP aK s m (j % 8) (j / 8)) → post (nI (cv_w s m)) (nI s, nI m, fc, nI (cv_w s m), aP, aK, oO, oE, oH, oS, oR, oL, oT, oU, oN, aG, aB, oW)) :
    wpX_move post (nI s, nI m, fc, fw, aP, aK, aO, aE, aH, aS, aR, aL, aT, aU, aN, aG, aB, aW) := by
  unfold wpX_move
  refine cv_wnX hs hm ?_
  refine loop_0 (fun n i (t : Nat → Int32) => wX_move_10 post (nI s) (nI m) fc (nI (cv_w s m)) n (nI i) aP aK t aE aH aS aR aL aT aU aN aG aB aW) (fun i t => ∀ k, k < i → t k = 0) 64 aO (fun k h => absurd h (Nat.not_lt_zero _)) ?_ ?_
  · intro n t ht
    exact br_t (nI_le (a := 64) (b := 64) (by decide) (by decide)) (br_c (fun _ => cv_47 hs hm hp hk hR hB ht H _) (fun _ => cv_47 hs hm hp hk hR hB ht H _))
  · intro n i t hi ht IH
    refine br_f (nI_ge (b := 64) hi (by decide)) ⟨vp_in_nI hi (by decide), nm_r (by rw [nI_clamp (by omega)]) (nm_r (nI_1 i) (IH _ ?_))⟩
    intro k hk
    by_cases e : k = i
    · rw [e, pk_us]
    · rw [pk_un e]
      exact ht k (by omega)
end
theorem i_vc_move {k : Nat} {u : SX} {v : SY} (I : i_Rel k u v) (hk : k + 5 ≤ 2560) : wpX_move (fun r u' => wpY_move (fun r' v' => r' = r ∧ i_Rel (k + 5) u' v') v) u := by
  refine cv_el (P := fun u v => wpX_move (fun r u' => wpY_move (fun r' v' => r' = r ∧ i_Rel (k + 5) u' v') v) u) I ?_
  intro s m w fc aP aK aO aE aH aS aR aL aT aU aN aG aB aW bR F
  refine cv_mvX F.1 F.2.1 F.2.2.2.1 F.2.2.2.2.1 F.2.2.2.2.2.1 F.2.2.2.2.2.2.1 ?_
  intro oO oE oH oS oR oL oT oU oN oW ho
  refine cv_mvY F.1 F.2.1 ?_
  intro r hr
  exact ⟨rfl, cv_in ⟨F.1, F.2.1, cv_w8 F.1 F.2.1, F.2.2.2.1, F.2.2.2.2.1, F.2.2.2.2.2.1, F.2.2.2.2.2.2.1, fun j h1 h2 => (ho j h1 h2).trans (hr j h1 h2).symm⟩⟩
end
