section
/-! numbers: Int32 and Int64 as images of Int -/
def cd_i (v : Int) : Int32 := Int32.ofInt v
def cd_l (v : Int) : Int64 := Int64.ofInt v
abbrev cd_R (a : Int) : Prop := -1000000000 ≤ a ∧ a ≤ 1000000000
theorem cd_iT {v : Int} (h : cd_R v) : (cd_i v).toInt = v := Int32.toInt_ofInt_of_le (by omega) (by omega)
theorem cd_lT {v : Int} (h : cd_R v) : (cd_l v).toInt = v := Int64.toInt_ofInt_of_le (by omega) (by omega)
theorem cd_iadd (a b : Int) : cd_i a + cd_i b = cd_i (a + b) := (Int32.ofInt_add a b).symm
theorem cd_isub (a b : Int) : cd_i a - cd_i b = cd_i (a - b) := (Int32.ofInt_sub a b).symm
theorem cd_imul (a b : Int) : cd_i a * cd_i b = cd_i (a * b) := (Int32.ofInt_mul a b).symm
theorem cd_ineg (a : Int) : - cd_i a = cd_i (- a) := (Int32.ofInt_neg a).symm
theorem cd_ladd (a b : Int) : cd_l a + cd_l b = cd_l (a + b) := (Int64.ofInt_add a b).symm
theorem cd_lsub (a b : Int) : cd_l a - cd_l b = cd_l (a - b) := (Int64.ofInt_sub a b).symm
theorem cd_lmul (a b : Int) : cd_l a * cd_l b = cd_l (a * b) := (Int64.ofInt_mul a b).symm
theorem cd_lneg (a : Int) : - cd_l a = cd_l (- a) := (Int64.ofInt_neg a).symm
theorem cd_il {v : Int} (h : cd_R v) : (cd_i v).toInt64 = cd_l v := Int64.toInt.inj (by rw [Int32.toInt_toInt64, cd_iT h, cd_lT h])
theorem cd_li (v : Int) : (cd_l v).toInt32 = cd_i v := Int64.toInt32_ofInt
theorem cd_nI (n : Nat) : nI n = cd_i (n : Int) := Int32.ofInt_eq_ofNat.symm
theorem cd_lN (n : Nat) : lN n = cd_l (n : Int) := Int64.ofInt_eq_ofNat.symm
theorem cd_i0 : (0 : Int32) = cd_i 0 := by first | rfl | decide
theorem cd_l0 : (0 : Int64) = cd_l 0 := by first | rfl | decide
theorem cd_l1 : (1 : Int64) = cd_l 1 := by first | rfl | decide
theorem cd_l50 : (50 : Int64) = cd_l 50 := by first | rfl | decide
theorem cd_lm50 : (-50 : Int64) = cd_l (-50) := by first | rfl | decide
theorem cd_im50 : (-50 : Int32) = cd_i (-50) := by first | rfl | decide
theorem cd_ilt {x y : Int32} {A B : Prop} (a b : Int) (hx : x = cd_i a) (hy : y = cd_i b) (ra : cd_R a) (rb : cd_R b) (f : a < b → A) (g : b ≤ a → B) : (x < y → A) ∧ (¬ x < y → B) := by
  have e : x < y ↔ a < b := by rw [hx, hy, Int32.lt_iff_toInt_lt, cd_iT ra, cd_iT rb]
  exact ⟨fun z => f (e.mp z), fun z => g (Int.not_lt.mp (fun t => z (e.mpr t)))⟩
theorem cd_ile {x y : Int32} {A B : Prop} (a b : Int) (hx : x = cd_i a) (hy : y = cd_i b) (ra : cd_R a) (rb : cd_R b) (f : a ≤ b → A) (g : b < a → B) : (x ≤ y → A) ∧ (¬ x ≤ y → B) := by
  have e : x ≤ y ↔ a ≤ b := by rw [hx, hy, Int32.le_iff_toInt_le, cd_iT ra, cd_iT rb]
  exact ⟨fun z => f (e.mp z), fun z => g (Int.not_le.mp (fun t => z (e.mpr t)))⟩
theorem cd_ieqI {a b : Int} (ra : cd_R a) (rb : cd_R b) : cd_i a = cd_i b ↔ a = b := by
  rw [← Int32.toInt_inj, cd_iT ra, cd_iT rb]
theorem cd_ieq {x y : Int32} {A B : Prop} (a b : Int) (hx : x = cd_i a) (hy : y = cd_i b) (ra : cd_R a) (rb : cd_R b) (f : a = b → A) (g : ¬ a = b → B) : (x = y → A) ∧ (¬ x = y → B) := by
  have e : x = y ↔ a = b := by rw [hx, hy, cd_ieqI ra rb]
  exact ⟨fun z => f (e.mp z), fun z => g (fun t => z (e.mpr t))⟩
theorem cd_llt {x y : Int64} {A B : Prop} (a b : Int) (hx : x = cd_l a) (hy : y = cd_l b) (ra : cd_R a) (rb : cd_R b) (f : a < b → A) (g : b ≤ a → B) : (x < y → A) ∧ (¬ x < y → B) := by
  have e : x < y ↔ a < b := by rw [hx, hy, Int64.lt_iff_toInt_lt, cd_lT ra, cd_lT rb]
  exact ⟨fun z => f (e.mp z), fun z => g (Int.not_lt.mp (fun t => z (e.mpr t)))⟩
theorem cd_lle {x y : Int64} {A B : Prop} (a b : Int) (hx : x = cd_l a) (hy : y = cd_l b) (ra : cd_R a) (rb : cd_R b) (f : a ≤ b → A) (g : b < a → B) : (x ≤ y → A) ∧ (¬ x ≤ y → B) := by
  have e : x ≤ y ↔ a ≤ b := by rw [hx, hy, Int64.le_iff_toInt_le, cd_lT ra, cd_lT rb]
  exact ⟨fun z => f (e.mp z), fun z => g (Int.not_le.mp (fun t => z (e.mpr t)))⟩
theorem cd_leq {x y : Int64} {A B : Prop} (a b : Int) (hx : x = cd_l a) (hy : y = cd_l b) (ra : cd_R a) (rb : cd_R b) (f : a = b → A) (g : ¬ a = b → B) : (x = y → A) ∧ (¬ x = y → B) := by
  have e : x = y ↔ a = b := by rw [hx, hy, ← Int64.toInt_inj, cd_lT ra, cd_lT rb]
  exact ⟨fun z => f (e.mp z), fun z => g (fun t => z (e.mpr t))⟩
/-- a script's cell, masked, its remainder, moved down -/
theorem cd_cell (x : Int32) {d : Nat} {dd mm : Int32} (m : Int) (hd : 0 < d) (hd2 : d < 256) (hdd : dd = nI d) (hmm : mm = cd_i m) : ∃ v : Int, -m ≤ v ∧ v < d - m ∧ ((x &&& 255) - (x &&& 255) / dd * dd) - mm = cd_i v := by
  obtain ⟨j, hj, e⟩ := pk_andE x (m := 255) 8 (by decide)
  have hm : j % d < d := Nat.mod_lt _ hd
  refine ⟨((j % d : Nat) : Int) - m, by omega, by omega, ?_⟩
  rw [e, hdd, pk_rem (by omega) hd (by omega), cd_nI, hmm, cd_isub]
end
section
/-! one condition at its place k: a, b, c hold A, B, C -/
def cd_A (a1 a2 a3 : Nat → Int32) (k : Int32) (A B C : Int) : Prop := vp_in k 14 ∧ (cd_R A ∧ cd_R B ∧ cd_R C) ∧ a1 k.toNatClampNeg = cd_i A ∧ a2 k.toNatClampNeg = cd_i B ∧ a3 k.toNatClampNeg = cd_i C
theorem cd_meets {post : Int32 → Prop} {ct lv : Int32} {fx fy fw : Int64} {hl hh : Int32} {lx ly lw hx hy hw : Int64} {rm : Int32} {bx bY bw : Int64} {ap aq : Int32} {a1 a2 a3 a4 : Nat → Int32} {k : Int32} {A B C x y w : Int} (H : cd_A a1 a2 a3 k A B C) (ex : fx = cd_l x) (ey : fy = cd_l y) (ew : fw = cd_l w) (r1 : cd_R (C * w)) (r2 : cd_R (A * x + B * y))
    (f : C * w < A * x + B * y → post 0) (g : A * x + B * y ≤ C * w → post 1) : wpX_meets post (ct, lv, fx, fy, fw, hl, hh, lx, ly, lw, hx, hy, hw, rm, bx, bY, bw, ap, aq, a1, a2, a3, a4) k := by
  obtain ⟨hk, ⟨rA, rB, rC⟩, h1, h2, h3⟩ := H
  have e1 : (a3 k.toNatClampNeg).toInt64 * fw = cd_l (C * w) := by rw [h3, cd_il rC, ew, cd_lmul]
  have e2 : (a1 k.toNatClampNeg).toInt64 * fx + (a2 k.toNatClampNeg).toInt64 * fy = cd_l (A * x + B * y) := by rw [h1, h2, cd_il rA, cd_il rB, ex, ey, cd_lmul, cd_lmul, cd_ladd]
  exact ⟨hk, hk, hk, cd_llt (C * w) (A * x + B * y) e1 e2 r1 r2 f g⟩
theorem cd_along {post : Int64 → Prop} {ct lv : Int32} {fx fy fw : Int64} {hl hh : Int32} {lx ly lw hx hy hw : Int64} {rm : Int32} {bx bY bw : Int64} {ap aq : Int32} {a1 a2 a3 a4 : Nat → Int32} {k : Int32} {px py : Int64} {A B C X Y : Int} (H : cd_A a1 a2 a3 k A B C) (ex : px = cd_l X) (ey : py = cd_l Y) (hp : post (cd_l (A * Y - B * X))) : wpX_along post (ct, lv, fx, fy, fw, hl, hh, lx, ly, lw, hx, hy, hw, rm, bx, bY, bw, ap, aq, a1, a2, a3, a4) k px py := by
  obtain ⟨hk, ⟨rA, rB, rC⟩, h1, h2, h3⟩ := H
  have e : (a1 k.toNatClampNeg).toInt64 * py - (a2 k.toNatClampNeg).toInt64 * px = cd_l (A * Y - B * X) := by rw [h1, h2, cd_il rA, cd_il rB, ex, ey, cd_lmul, cd_lmul, cd_lsub]
  exact ⟨hk, hk, ek_v (P := post) e hp⟩
theorem cd_low {post : St2 → Prop} {ct lv : Int32} {fx fy fw : Int64} {hl hh : Int32} {lx ly lw hx hy hw : Int64} {rm : Int32} {bx bY bw : Int64} {ap aq : Int32} {a1 a2 a3 a4 : Nat → Int32} {k : Int32} {px py pw : Int64} {A B C X Y W LX LY LW : Int} (H : cd_A a1 a2 a3 k A B C) (ex : px = cd_l X) (ey : py = cd_l Y) (ew : pw = cd_l W)
    (hs : hl = 0 ∨ (hl = 1 ∧ lx = cd_l LX ∧ ly = cd_l LY ∧ lw = cd_l LW ∧ cd_R ((A * Y - B * X) * LW) ∧ cd_R ((A * LY - B * LX) * W) ∧ (A * LY - B * LX) * W < (A * Y - B * X) * LW))
    (hp : post (ct, lv, fx, fy, fw, 1, hh, cd_l X, cd_l Y, cd_l W, hx, hy, hw, rm, bx, bY, bw, ap, aq, a1, a2, a3, a4)) : wpX_cutLow post (ct, lv, fx, fy, fw, hl, hh, lx, ly, lw, hx, hy, hw, rm, bx, bY, bw, ap, aq, a1, a2, a3, a4) k px py pw := by
  subst ex ey ew
  rcases hs with hs | ⟨hs, e1, e2, e3, r1, r2, h⟩
  · exact br_t hs hp
  · subst hs e1 e2 e3
    exact br_f (by decide) (cd_along H rfl rfl (cd_along H rfl rfl (cd_lle _ _ (cd_lmul _ _) (cd_lmul _ _) r1 r2 (fun z => absurd h (Int.not_lt.mpr z)) (fun _ => hp))))
theorem cd_high {post : St2 → Prop} {ct lv : Int32} {fx fy fw : Int64} {hl hh : Int32} {lx ly lw hx hy hw : Int64} {rm : Int32} {bx bY bw : Int64} {ap aq : Int32} {a1 a2 a3 a4 : Nat → Int32} {k : Int32} {px py pw : Int64} {A B C X Y W LX LY LW : Int} (H : cd_A a1 a2 a3 k A B C) (ex : px = cd_l X) (ey : py = cd_l Y) (ew : pw = cd_l W)
    (hs : hh = 0 ∨ (hh = 1 ∧ hx = cd_l LX ∧ hy = cd_l LY ∧ hw = cd_l LW ∧ cd_R ((A * Y - B * X) * LW) ∧ cd_R ((A * LY - B * LX) * W) ∧ (A * Y - B * X) * LW < (A * LY - B * LX) * W))
    (hp : post (ct, lv, fx, fy, fw, hl, 1, lx, ly, lw, cd_l X, cd_l Y, cd_l W, rm, bx, bY, bw, ap, aq, a1, a2, a3, a4)) : wpX_cutHigh post (ct, lv, fx, fy, fw, hl, hh, lx, ly, lw, hx, hy, hw, rm, bx, bY, bw, ap, aq, a1, a2, a3, a4) k px py pw := by
  subst ex ey ew
  rcases hs with hs | ⟨hs, e1, e2, e3, r1, r2, h⟩
  · exact br_t hs hp
  · subst hs e1 e2 e3
    exact br_f (by decide) (cd_along H rfl rfl (cd_along H rfl rfl (cd_lle _ _ (cd_lmul _ _) (cd_lmul _ _) r2 r1 (fun z => absurd h (Int.not_lt.mpr z)) (fun _ => hp))))
/-- the parallel test in numbers -/
def cd_pm (own other Ck Cj : Int) : Prop := (0 < own ∧ other * Ck ≤ Cj * own) ∨ (own ≤ 0 ∧ Cj * own ≤ other * Ck)
theorem cd_p49 {post : Int32 → Prop} {ct lv : Int32} {fx fy fw : Int64} {hl hh : Int32} {lx ly lw hx hy hw : Int64} {rm : Int32} {bx bY bw : Int64} {ap aq : Int32} {a1 a2 a3 a4 : Nat → Int32} {k j x3 z0 : Int32} {Ak Bk Ck Aj Bj Cj own other : Int} (Hk : cd_A a1 a2 a3 k Ak Bk Ck) (Hj : cd_A a1 a2 a3 j Aj Bj Cj) (e3 : x3 = cd_i own) (e0 : z0 = cd_i other)
    (r0 : cd_R own) (r1 : cd_R (other * Ck)) (r2 : cd_R (Cj * own)) (f : cd_pm own other Ck Cj → post 1) (g : ¬ cd_pm own other Ck Cj → post 0) : wX_parallelMeets_49 post k j x3 z0 ct lv fx fy fw hl hh lx ly lw hx hy hw rm bx bY bw ap aq a1 a2 a3 a4 := by
  obtain ⟨hk, _, _, _, hk3⟩ := Hk
  obtain ⟨hj, _, _, _, hj3⟩ := Hj
  have e1 : z0 * a3 k.toNatClampNeg = cd_i (other * Ck) := by rw [e0, hk3, cd_imul]
  have e2 : a3 j.toNatClampNeg * x3 = cd_i (Cj * own) := by rw [e3, hj3, cd_imul]
  refine cd_ile own 0 e3 cd_i0 r0 ⟨by omega, by omega⟩ (fun z => ⟨hk, hj, cd_ilt _ _ e1 e2 r1 r2 (fun t => g ?_) (fun t => f ?_)⟩) (fun z => ⟨hk, hj, cd_ilt _ _ e2 e1 r2 r1 (fun t => g ?_) (fun t => f ?_)⟩)
  · unfold cd_pm; omega
  · exact Or.inr ⟨z, t⟩
  · unfold cd_pm; omega
  · exact Or.inl ⟨z, t⟩
theorem cd_par {post : Int32 → Prop} {ct lv : Int32} {fx fy fw : Int64} {hl hh : Int32} {lx ly lw hx hy hw : Int64} {rm : Int32} {bx bY bw : Int64} {ap aq : Int32} {a1 a2 a3 a4 : Nat → Int32} {k j : Int32} {Ak Bk Ck Aj Bj Cj : Int} (own other : Int) (Hk : cd_A a1 a2 a3 k Ak Bk Ck) (Hj : cd_A a1 a2 a3 j Aj Bj Cj) (hz : (¬ Ak = 0 ∧ own = Ak ∧ other = Aj) ∨ (Ak = 0 ∧ own = Bk ∧ other = Bj))
    (r1 : cd_R (other * Ck)) (r2 : cd_R (Cj * own)) (f : cd_pm own other Ck Cj → post 1) (g : ¬ cd_pm own other Ck Cj → post 0) : wpX_parallelMeets post (ct, lv, fx, fy, fw, hl, hh, lx, ly, lw, hx, hy, hw, rm, bx, bY, bw, ap, aq, a1, a2, a3, a4) k j := by
  have hk := Hk.1
  have hj := Hj.1
  have rA := Hk.2.1.1
  have rB := Hk.2.1.2.1
  have k1 := Hk.2.2.1
  have k2 := Hk.2.2.2.1
  have j1 := Hj.2.2.1
  have j2 := Hj.2.2.2.1
  rcases hz with ⟨n, e1, e2⟩ | ⟨n, e1, e2⟩
  · subst e1 e2
    have h : ¬ a1 k.toNatClampNeg = 0 := fun z => n ((cd_ieqI rA ⟨by omega, by omega⟩).mp (k1.symm.trans (z.trans cd_i0)))
    exact ⟨hk, br_f h ⟨hk, ⟨hk, br_f h ⟨hj, cd_p49 Hk Hj k1 j1 rA r1 r2 f g⟩⟩⟩⟩
  · subst e1 e2
    have h : a1 k.toNatClampNeg = 0 := by rw [k1, n]; exact cd_i0.symm
    exact ⟨hk, br_t h ⟨hk, ⟨hk, br_t h ⟨hj, cd_p49 Hk Hj k2 j2 rB r1 r2 f g⟩⟩⟩⟩
/-- the line of k cut by j: the directions are the same or opposite -/
theorem cd_csPar {post : Int32 → St2 → Prop} {ct lv : Int32} {fx fy fw : Int64} {hl hh : Int32} {lx ly lw hx hy hw : Int64} {rm : Int32} {bx bY bw : Int64} {ap aq : Int32} {a1 a2 a3 a4 : Nat → Int32} {k j : Int32} {Ak Bk Ck Aj Bj Cj : Int} (own other : Int) (Hk : cd_A a1 a2 a3 k Ak Bk Ck) (Hj : cd_A a1 a2 a3 j Aj Bj Cj) (ht : Ak * Bj - Aj * Bk = 0)
    (hz : (¬ Ak = 0 ∧ own = Ak ∧ other = Aj) ∨ (Ak = 0 ∧ own = Bk ∧ other = Bj)) (r1 : cd_R (other * Ck)) (r2 : cd_R (Cj * own))
    (f : cd_pm own other Ck Cj → post 1 (ct, lv, fx, fy, fw, hl, hh, lx, ly, lw, hx, hy, hw, rm, bx, bY, bw, ap, aq, a1, a2, a3, a4)) (g : ¬ cd_pm own other Ck Cj → post 0 (ct, lv, fx, fy, fw, hl, hh, lx, ly, lw, hx, hy, hw, rm, bx, bY, bw, ap, aq, a1, a2, a3, a4)) : wpX_cutStretch post (ct, lv, fx, fy, fw, hl, hh, lx, ly, lw, hx, hy, hw, rm, bx, bY, bw, ap, aq, a1, a2, a3, a4) k j := by
  have e : a1 k.toNatClampNeg * a2 j.toNatClampNeg - a1 j.toNatClampNeg * a2 k.toNatClampNeg = 0 := by
    rw [Hk.2.2.1, Hk.2.2.2.1, Hj.2.2.1, Hj.2.2.2.1, cd_imul, cd_imul, cd_isub, ht]; exact cd_i0.symm
  exact ⟨Hk.1, Hj.1, Hj.1, Hk.1, nm_r e (br_t rfl (cd_par own other Hk Hj hz r1 r2 (fun z => ⟨rfl, f z⟩) (fun z => ⟨rfl, g z⟩)))⟩
theorem cd_csLow {post : Int32 → St2 → Prop} {ct lv : Int32} {fx fy fw : Int64} {hl hh : Int32} {lx ly lw hx hy hw : Int64} {rm : Int32} {bx bY bw : Int64} {ap aq : Int32} {a1 a2 a3 a4 : Nat → Int32} {k j : Int32} {Ak Bk Ck Aj Bj Cj : Int} (X Y T LX LY LW : Int) (Hk : cd_A a1 a2 a3 k Ak Bk Ck) (Hj : cd_A a1 a2 a3 j Aj Bj Cj) (ht : Ak * Bj - Aj * Bk = -T) (hT : 0 < T)
    (eX : -(Ck * Bj - Cj * Bk) = X) (eY : -(Ak * Cj - Aj * Ck) = Y) (rX : cd_R X) (rY : cd_R Y) (rT : cd_R T)
    (hs : hl = 0 ∨ (hl = 1 ∧ lx = cd_l LX ∧ ly = cd_l LY ∧ lw = cd_l LW ∧ cd_R ((Ak * Y - Bk * X) * LW) ∧ cd_R ((Ak * LY - Bk * LX) * T) ∧ (Ak * LY - Bk * LX) * T < (Ak * Y - Bk * X) * LW))
    (hp : post 1 (ct, lv, fx, fy, fw, 1, hh, cd_l X, cd_l Y, cd_l T, hx, hy, hw, rm, bx, bY, bw, ap, aq, a1, a2, a3, a4)) : wpX_cutStretch post (ct, lv, fx, fy, fw, hl, hh, lx, ly, lw, hx, hy, hw, rm, bx, bY, bw, ap, aq, a1, a2, a3, a4) k j := by
  have e : a1 k.toNatClampNeg * a2 j.toNatClampNeg - a1 j.toNatClampNeg * a2 k.toNatClampNeg = cd_i (-T) := by
    rw [Hk.2.2.1, Hk.2.2.2.1, Hj.2.2.1, Hj.2.2.2.1, cd_imul, cd_imul, cd_isub, ht]
  have e4 : (a3 k.toNatClampNeg * a2 j.toNatClampNeg - a3 j.toNatClampNeg * a2 k.toNatClampNeg).toInt64 = cd_l (-X) := by
    rw [Hk.2.2.2.2, Hk.2.2.2.1, Hj.2.2.2.2, Hj.2.2.2.1, cd_imul, cd_imul, cd_isub, show Ck * Bj - Cj * Bk = -X by omega]; exact cd_il ⟨by omega, by omega⟩
  have e6 : (a1 k.toNatClampNeg * a3 j.toNatClampNeg - a1 j.toNatClampNeg * a3 k.toNatClampNeg).toInt64 = cd_l (-Y) := by
    rw [Hk.2.2.2.2, Hk.2.2.1, Hj.2.2.2.2, Hj.2.2.1, cd_imul, cd_imul, cd_isub, show Ak * Cj - Aj * Ck = -Y by omega]; exact cd_il ⟨by omega, by omega⟩
  have n0 : ¬ cd_i (-T) = 0 := fun z => by
    have z' := (cd_ieqI (a := -T) (b := 0) ⟨by omega, by omega⟩ ⟨by omega, by omega⟩).mp (z.trans cd_i0)
    omega
  have l0 : cd_i (-T) ≤ 0 := by
    rw [cd_i0, Int32.le_iff_toInt_le, cd_iT ⟨by omega, by omega⟩, cd_iT ⟨by omega, by omega⟩]; omega
  have c1 : - cd_l (-X) = cd_l X := by rw [cd_lneg, Int.neg_neg]
  have c2 : - cd_l (-Y) = cd_l Y := by rw [cd_lneg, Int.neg_neg]
  have c3 : (- cd_i (-T)).toInt64 = cd_l T := by rw [cd_ineg, Int.neg_neg]; exact cd_il rT
  exact ⟨Hk.1, Hj.1, Hj.1, Hk.1, nm_r e (br_f n0 ⟨Hk.1, Hj.1, Hj.1, Hk.1, nm_r e4 ⟨Hk.1, Hj.1, Hj.1, Hk.1, nm_r e6 (br_t l0 (cd_low (LX := LX) (LY := LY) (LW := LW) Hk c1 c2 c3 hs hp))⟩⟩)⟩
theorem cd_csHigh {post : Int32 → St2 → Prop} {ct lv : Int32} {fx fy fw : Int64} {hl hh : Int32} {lx ly lw hx hy hw : Int64} {rm : Int32} {bx bY bw : Int64} {ap aq : Int32} {a1 a2 a3 a4 : Nat → Int32} {k j : Int32} {Ak Bk Ck Aj Bj Cj : Int} (X Y T LX LY LW : Int) (Hk : cd_A a1 a2 a3 k Ak Bk Ck) (Hj : cd_A a1 a2 a3 j Aj Bj Cj) (ht : Ak * Bj - Aj * Bk = T) (hT : 0 < T)
    (eX : Ck * Bj - Cj * Bk = X) (eY : Ak * Cj - Aj * Ck = Y) (rX : cd_R X) (rY : cd_R Y) (rT : cd_R T)
    (hs : hh = 0 ∨ (hh = 1 ∧ hx = cd_l LX ∧ hy = cd_l LY ∧ hw = cd_l LW ∧ cd_R ((Ak * Y - Bk * X) * LW) ∧ cd_R ((Ak * LY - Bk * LX) * T) ∧ (Ak * Y - Bk * X) * LW < (Ak * LY - Bk * LX) * T))
    (hp : post 1 (ct, lv, fx, fy, fw, hl, 1, lx, ly, lw, cd_l X, cd_l Y, cd_l T, rm, bx, bY, bw, ap, aq, a1, a2, a3, a4)) : wpX_cutStretch post (ct, lv, fx, fy, fw, hl, hh, lx, ly, lw, hx, hy, hw, rm, bx, bY, bw, ap, aq, a1, a2, a3, a4) k j := by
  have e : a1 k.toNatClampNeg * a2 j.toNatClampNeg - a1 j.toNatClampNeg * a2 k.toNatClampNeg = cd_i T := by
    rw [Hk.2.2.1, Hk.2.2.2.1, Hj.2.2.1, Hj.2.2.2.1, cd_imul, cd_imul, cd_isub, ht]
  have e4 : (a3 k.toNatClampNeg * a2 j.toNatClampNeg - a3 j.toNatClampNeg * a2 k.toNatClampNeg).toInt64 = cd_l X := by
    rw [Hk.2.2.2.2, Hk.2.2.2.1, Hj.2.2.2.2, Hj.2.2.2.1, cd_imul, cd_imul, cd_isub, eX]; exact cd_il rX
  have e6 : (a1 k.toNatClampNeg * a3 j.toNatClampNeg - a1 j.toNatClampNeg * a3 k.toNatClampNeg).toInt64 = cd_l Y := by
    rw [Hk.2.2.2.2, Hk.2.2.1, Hj.2.2.2.2, Hj.2.2.1, cd_imul, cd_imul, cd_isub, eY]; exact cd_il rY
  have n0 : ¬ cd_i T = 0 := fun z => by
    have z' := (cd_ieqI (a := T) (b := 0) rT ⟨by omega, by omega⟩).mp (z.trans cd_i0)
    omega
  have l0 : ¬ cd_i T ≤ 0 := by
    rw [cd_i0, Int32.le_iff_toInt_le, cd_iT rT, cd_iT ⟨by omega, by omega⟩]; omega
  exact ⟨Hk.1, Hj.1, Hj.1, Hk.1, nm_r e (br_f n0 ⟨Hk.1, Hj.1, Hj.1, Hk.1, nm_r e4 ⟨Hk.1, Hj.1, Hj.1, Hk.1, nm_r e6 (br_f l0 (cd_high (LX := LX) (LY := LY) (LW := LW) Hk rfl rfl (cd_il rT) hs hp))⟩⟩)⟩
end
section
/-! moveOnto -/
theorem cd_146 {post : Int32 → St2 → Prop} {ct lv : Int32} {fx fy fw : Int64} {hl hh : Int32} {lx ly lw hx hy hw : Int64} {rm : Int32} {bx bY bw : Int64} {ap aq : Int32} {a1 a2 a3 a4 : Nat → Int32} (hp : post 1 (ct, lv, hx, hy, hw, hl, hh, lx, ly, lw, hx, hy, hw, rm, bx, bY, bw, ap, aq, a1, a2, a3, a4)) : wX_moveOnto_146 post ct lv fx fy fw hl hh lx ly lw hx hy hw rm bx bY bw ap aq a1 a2 a3 a4 :=
  br_f (by decide) (br_f (by decide) (br_f (by decide) hp))
theorem cd_150 {post : Int32 → St2 → Prop} {ct lv : Int32} {fx fy fw : Int64} {hl hh : Int32} {lx ly lw hx hy hw : Int64} {rm : Int32} {bx bY bw : Int64} {ap aq : Int32} {a1 a2 a3 a4 : Nat → Int32} (hp : post 1 (ct, lv, lx, ly, lw, hl, hh, lx, ly, lw, hx, hy, hw, rm, bx, bY, bw, ap, aq, a1, a2, a3, a4)) : wX_moveOnto_150 post ct lv fx fy fw hl hh lx ly lw hx hy hw rm bx bY bw ap aq a1 a2 a3 a4 :=
  br_t rfl (br_t rfl (br_t rfl hp))
/-- the far end of the stretch is the best -/
def cd_up (A B p q : Int) : Prop := 0 < q * A - p * B ∨ (q * A - p * B = 0 ∧ (0 < B ∨ (B = 0 ∧ A < 0)))
theorem cd_fin {post : Int32 → St2 → Prop} {ct lv : Int32} {fx fy fw : Int64} {hl hh : Int32} {lx ly lw hx hy hw : Int64} {rm : Int32} {bx bY bw : Int64} {ap aq : Int32} {a1 a2 a3 a4 : Nat → Int32} {k pp qq wo : Int32} {n : Nat} {A B C p q : Int} (LX LY LW HX HY HW : Int) (H : cd_A a1 a2 a3 k A B C) (ep : pp = cd_i p) (eq : qq = cd_i q)
    (e1 : lx = cd_l LX) (e2 : ly = cd_l LY) (e3 : lw = cd_l LW) (e4 : hx = cd_l HX) (e5 : hy = cd_l HY) (e6 : hw = cd_l HW) (rG : cd_R (q * A - p * B)) (r1 : cd_R ((A * LY - B * LX) * HW)) (r2 : cd_R ((A * HY - B * HX) * LW))
    (h : (A * LY - B * LX) * HW ≤ (A * HY - B * HX) * LW)
    (f : cd_up A B p q → post 1 (ct, lv, hx, hy, hw, hl, hh, lx, ly, lw, hx, hy, hw, rm, bx, bY, bw, ap, aq, a1, a2, a3, a4)) (g : ¬ cd_up A B p q → post 1 (ct, lv, lx, ly, lw, hl, hh, lx, ly, lw, hx, hy, hw, rm, bx, bY, bw, ap, aq, a1, a2, a3, a4)) : wX_moveOnto_13 post k pp qq wo (n + 1) k ct lv fx fy fw hl hh lx ly lw hx hy hw rm bx bY bw ap aq a1 a2 a3 a4 := by
  have e : qq * a1 k.toNatClampNeg - pp * a2 k.toNatClampNeg = cd_i (q * A - p * B) := by
    rw [ep, eq, H.2.2.1, H.2.2.2.1, cd_imul, cd_imul, cd_isub]
  have m1 : cd_l (A * LY - B * LX) * hw = cd_l ((A * LY - B * LX) * HW) := by rw [e6, cd_lmul]
  have m2 : cd_l (A * HY - B * HX) * lw = cd_l ((A * HY - B * HX) * LW) := by rw [e3, cd_lmul]
  have r0 : cd_R 0 := ⟨by omega, by omega⟩
  refine br_t (Int32.le_refl k) (cd_along H e1 e2 (cd_along H e4 e5 (cd_lle _ _ m1 m2 r1 r2 (fun _ => ⟨H.1, H.1, nm_r e ?_⟩) (fun z => absurd h (Int.not_le.mpr z)))))
  refine cd_ilt 0 (q * A - p * B) cd_i0 rfl r0 rG (fun z => cd_146 (f (Or.inl z))) (fun z => cd_ieq (q * A - p * B) 0 rfl cd_i0 rG r0 (fun z2 => ⟨H.1, ?_⟩) (fun z2 => cd_150 (g ?_)))
  · refine cd_ilt 0 B cd_i0 H.2.2.2.1 r0 H.2.1.2.1 (fun z3 => cd_146 (f (Or.inr ⟨z2, Or.inl z3⟩))) (fun z3 => ⟨H.1, ?_⟩)
    refine cd_ieq B 0 H.2.2.2.1 cd_i0 H.2.1.2.1 r0 (fun z4 => ⟨H.1, ?_⟩) (fun z4 => cd_150 (g ?_))
    · exact cd_ile 0 A cd_i0 H.2.2.1 r0 H.2.1.1 (fun z5 => cd_150 (g (by unfold cd_up; omega))) (fun z5 => cd_146 (f (Or.inr ⟨z2, Or.inr ⟨z4, z5⟩⟩)))
    · unfold cd_up; omega
  · unfold cd_up; omega
/-- what the arrays hold while the law runs -/
def cd_K (a1 a2 a3 : Nat → Int32) (l r t : Int) : Prop := cd_A a1 a2 a3 0 1 0 50 ∧ cd_A a1 a2 a3 1 (-1) 0 50 ∧ cd_A a1 a2 a3 2 0 1 50 ∧ cd_A a1 a2 a3 3 0 (-1) 50 ∧ cd_A a1 a2 a3 4 (-1) 0 (-l) ∧ cd_A a1 a2 a3 5 1 0 r ∧ cd_A a1 a2 a3 6 0 1 t
abbrev cd_N (l r t : Int) : Prop := -45 ≤ l ∧ l ≤ 44 ∧ -45 ≤ r ∧ r ≤ 44 ∧ -45 ≤ t ∧ t ≤ 44
abbrev cd_M (p q : Int) : Prop := -9 ≤ p ∧ p ≤ 9 ∧ -9 ≤ q ∧ q ≤ 9
theorem cd_mv4 {post : Int32 → St2 → Prop} {ct lv : Int32} {fx fy fw : Int64} {hl hh : Int32} {lx ly lw hx hy hw : Int64} {rm : Int32} {bx bY bw : Int64} {ap aq : Int32} {a1 a2 a3 a4 : Nat → Int32} {pp qq wo : Int32} {p q l r t : Int} (K : cd_K a1 a2 a3 l r t) (N : cd_N l r t) (M : cd_M p q) (ep : pp = cd_i p) (eq : qq = cd_i q)
    (w0 : ¬ (0 : Int32) = wo) (w1 : ¬ (1 : Int32) = wo) (w2 : ¬ (2 : Int32) = wo) (w3 : ¬ (3 : Int32) = wo)
    (f : q ≤ 0 → ∀ (hl hh : Int32) (lx ly lw hx hy hw : Int64), post 1 (ct, lv, cd_l l, cd_l (-50), cd_l 1, hl, hh, lx, ly, lw, hx, hy, hw, rm, bx, bY, bw, ap, aq, a1, a2, a3, a4)) (g : 0 < q → ∀ (hl hh : Int32) (lx ly lw hx hy hw : Int64), post 1 (ct, lv, cd_l l, cd_l 50, cd_l 1, hl, hh, lx, ly, lw, hx, hy, hw, rm, bx, bY, bw, ap, aq, a1, a2, a3, a4)) : wpX_moveOnto post (ct, lv, fx, fy, fw, hl, hh, lx, ly, lw, hx, hy, hw, rm, bx, bY, bw, ap, aq, a1, a2, a3, a4) 4 pp qq wo := by
  obtain ⟨H0, H1, H2, H3, H4, H5, H6⟩ := K
  obtain ⟨n1, n2, n3, n4, n5, n6⟩ := N
  obtain ⟨m1, m2, m3, m4⟩ := M
  refine ⟨0 + 1 + 1 + 1 + 1 + 1, ?_⟩
  refine br_f (by decide) (br_f w0 (cd_csPar (-1) 1 H4 H0 (by omega) (Or.inl ⟨by omega, rfl, rfl⟩) ⟨by omega, by omega⟩ ⟨by omega, by omega⟩ (fun _ => br_f (by decide) (nm_r (show (0 : Int32) + 1 = 1 by decide) ?_)) (fun z => absurd (show cd_pm (-1) 1 (-l) 50 by unfold cd_pm; omega) z)))
  refine br_f (by decide) (br_f w1 (cd_csPar (-1) (-1) H4 H1 (by omega) (Or.inl ⟨by omega, rfl, rfl⟩) ⟨by omega, by omega⟩ ⟨by omega, by omega⟩ (fun _ => br_f (by decide) (nm_r (show (1 : Int32) + 1 = 2 by decide) ?_)) (fun z => absurd (show cd_pm (-1) (-1) (-l) 50 by unfold cd_pm; omega) z)))
  refine br_f (by decide) (br_f w2 (cd_csLow l 50 1 0 0 0 H4 H2 (by omega) (by omega) (by omega) (by omega) ⟨by omega, by omega⟩ ⟨by omega, by omega⟩ ⟨by omega, by omega⟩ (Or.inl rfl) (br_f (by decide) (nm_r (show (2 : Int32) + 1 = 3 by decide) ?_))))
  refine br_f (by decide) (br_f w3 (cd_csHigh l (-50) 1 0 0 0 H4 H3 (by omega) (by omega) (by omega) (by omega) ⟨by omega, by omega⟩ ⟨by omega, by omega⟩ ⟨by omega, by omega⟩ (Or.inl rfl) (br_f (by decide) (nm_r (show (3 : Int32) + 1 = 4 by decide) ?_))))
  refine cd_fin l 50 1 l (-50) 1 H4 ep eq rfl rfl rfl rfl rfl rfl ⟨by omega, by omega⟩ ⟨by omega, by omega⟩ ⟨by omega, by omega⟩ (by omega) (fun z => f ?_ _ _ _ _ _ _ _ _) (fun z => g ?_ _ _ _ _ _ _ _ _)
  · unfold cd_up at z; omega
  · unfold cd_up at z; omega
theorem cd_mv5 {post : Int32 → St2 → Prop} {ct lv : Int32} {fx fy fw : Int64} {hl hh : Int32} {lx ly lw hx hy hw : Int64} {rm : Int32} {bx bY bw : Int64} {ap aq : Int32} {a1 a2 a3 a4 : Nat → Int32} {pp qq wo : Int32} {p q l r t : Int} (K : cd_K a1 a2 a3 l r t) (N : cd_N l r t) (M : cd_M p q) (ep : pp = cd_i p) (eq : qq = cd_i q)
    (w0 : ¬ (0 : Int32) = wo) (w1 : ¬ (1 : Int32) = wo) (w2 : ¬ (2 : Int32) = wo) (w3 : ¬ (3 : Int32) = wo) (w4 : ¬ (4 : Int32) = wo)
    (f : l ≤ r → q ≤ 0 → ∀ (hl hh : Int32) (lx ly lw hx hy hw : Int64), post 1 (ct, lv, cd_l r, cd_l (-50), cd_l 1, hl, hh, lx, ly, lw, hx, hy, hw, rm, bx, bY, bw, ap, aq, a1, a2, a3, a4)) (g : l ≤ r → 0 < q → ∀ (hl hh : Int32) (lx ly lw hx hy hw : Int64), post 1 (ct, lv, cd_l r, cd_l 50, cd_l 1, hl, hh, lx, ly, lw, hx, hy, hw, rm, bx, bY, bw, ap, aq, a1, a2, a3, a4))
    (e : r < l → ∀ (hl hh : Int32) (lx ly lw hx hy hw : Int64), post 0 (ct, lv, fx, fy, fw, hl, hh, lx, ly, lw, hx, hy, hw, rm, bx, bY, bw, ap, aq, a1, a2, a3, a4)) : wpX_moveOnto post (ct, lv, fx, fy, fw, hl, hh, lx, ly, lw, hx, hy, hw, rm, bx, bY, bw, ap, aq, a1, a2, a3, a4) 5 pp qq wo := by
  obtain ⟨H0, H1, H2, H3, H4, H5, H6⟩ := K
  obtain ⟨n1, n2, n3, n4, n5, n6⟩ := N
  obtain ⟨m1, m2, m3, m4⟩ := M
  refine ⟨0 + 1 + 1 + 1 + 1 + 1 + 1, ?_⟩
  refine br_f (by decide) (br_f w0 (cd_csPar 1 1 H5 H0 (by omega) (Or.inl ⟨by omega, rfl, rfl⟩) ⟨by omega, by omega⟩ ⟨by omega, by omega⟩ (fun _ => br_f (by decide) (nm_r (show (0 : Int32) + 1 = 1 by decide) ?_)) (fun z => absurd (show cd_pm 1 1 r 50 by unfold cd_pm; omega) z)))
  refine br_f (by decide) (br_f w1 (cd_csPar 1 (-1) H5 H1 (by omega) (Or.inl ⟨by omega, rfl, rfl⟩) ⟨by omega, by omega⟩ ⟨by omega, by omega⟩ (fun _ => br_f (by decide) (nm_r (show (1 : Int32) + 1 = 2 by decide) ?_)) (fun z => absurd (show cd_pm 1 (-1) r 50 by unfold cd_pm; omega) z)))
  refine br_f (by decide) (br_f w2 (cd_csHigh r 50 1 0 0 0 H5 H2 (by omega) (by omega) (by omega) (by omega) ⟨by omega, by omega⟩ ⟨by omega, by omega⟩ ⟨by omega, by omega⟩ (Or.inl rfl) (br_f (by decide) (nm_r (show (2 : Int32) + 1 = 3 by decide) ?_))))
  refine br_f (by decide) (br_f w3 (cd_csLow r (-50) 1 0 0 0 H5 H3 (by omega) (by omega) (by omega) (by omega) ⟨by omega, by omega⟩ ⟨by omega, by omega⟩ ⟨by omega, by omega⟩ (Or.inl rfl) (br_f (by decide) (nm_r (show (3 : Int32) + 1 = 4 by decide) ?_))))
  refine br_f (by decide) (br_f w4 (cd_csPar 1 (-1) H5 H4 (by omega) (Or.inl ⟨by omega, rfl, rfl⟩) ⟨by omega, by omega⟩ ⟨by omega, by omega⟩ (fun z => br_f (by decide) (nm_r (show (4 : Int32) + 1 = 5 by decide) ?_)) (fun z => br_t rfl (e ?_ _ _ _ _ _ _ _ _))))
  · have lr : l ≤ r := by unfold cd_pm at z; omega
    refine cd_fin r (-50) 1 r 50 1 H5 ep eq rfl rfl rfl rfl rfl rfl ⟨by omega, by omega⟩ ⟨by omega, by omega⟩ ⟨by omega, by omega⟩ (by omega) (fun z => g lr ?_ _ _ _ _ _ _ _ _) (fun z => f lr ?_ _ _ _ _ _ _ _ _)
    · unfold cd_up at z; omega
    · unfold cd_up at z; omega
  · unfold cd_pm at z; omega
theorem cd_mv6 {post : Int32 → St2 → Prop} {ct lv : Int32} {fx fy fw : Int64} {hl hh : Int32} {lx ly lw hx hy hw : Int64} {rm : Int32} {bx bY bw : Int64} {ap aq : Int32} {a1 a2 a3 a4 : Nat → Int32} {pp qq wo : Int32} {p q l r t : Int} (K : cd_K a1 a2 a3 l r t) (N : cd_N l r t) (M : cd_M p q) (lr : l ≤ r) (ep : pp = cd_i p) (eq : qq = cd_i q)
    (w0 : ¬ (0 : Int32) = wo) (w1 : ¬ (1 : Int32) = wo) (w2 : ¬ (2 : Int32) = wo) (w3 : ¬ (3 : Int32) = wo) (w4 : ¬ (4 : Int32) = wo) (w5 : ¬ (5 : Int32) = wo)
    (f : p ≤ 0 → ∀ (hl hh : Int32) (lx ly lw hx hy hw : Int64), post 1 (ct, lv, cd_l l, cd_l t, cd_l 1, hl, hh, lx, ly, lw, hx, hy, hw, rm, bx, bY, bw, ap, aq, a1, a2, a3, a4)) (g : 0 < p → ∀ (hl hh : Int32) (lx ly lw hx hy hw : Int64), post 1 (ct, lv, cd_l r, cd_l t, cd_l 1, hl, hh, lx, ly, lw, hx, hy, hw, rm, bx, bY, bw, ap, aq, a1, a2, a3, a4)) : wpX_moveOnto post (ct, lv, fx, fy, fw, hl, hh, lx, ly, lw, hx, hy, hw, rm, bx, bY, bw, ap, aq, a1, a2, a3, a4) 6 pp qq wo := by
  obtain ⟨H0, H1, H2, H3, H4, H5, H6⟩ := K
  obtain ⟨n1, n2, n3, n4, n5, n6⟩ := N
  obtain ⟨m1, m2, m3, m4⟩ := M
  refine ⟨0 + 1 + 1 + 1 + 1 + 1 + 1 + 1, ?_⟩
  refine br_f (by decide) (br_f w0 (cd_csLow 50 t 1 0 0 0 H6 H0 (by omega) (by omega) (by omega) (by omega) ⟨by omega, by omega⟩ ⟨by omega, by omega⟩ ⟨by omega, by omega⟩ (Or.inl rfl) (br_f (by decide) (nm_r (show (0 : Int32) + 1 = 1 by decide) ?_))))
  refine br_f (by decide) (br_f w1 (cd_csHigh (-50) t 1 0 0 0 H6 H1 (by omega) (by omega) (by omega) (by omega) ⟨by omega, by omega⟩ ⟨by omega, by omega⟩ ⟨by omega, by omega⟩ (Or.inl rfl) (br_f (by decide) (nm_r (show (1 : Int32) + 1 = 2 by decide) ?_))))
  refine br_f (by decide) (br_f w2 (cd_csPar 1 1 H6 H2 (by omega) (Or.inr ⟨rfl, rfl, rfl⟩) ⟨by omega, by omega⟩ ⟨by omega, by omega⟩ (fun _ => br_f (by decide) (nm_r (show (2 : Int32) + 1 = 3 by decide) ?_)) (fun z => absurd (show cd_pm 1 1 t 50 by unfold cd_pm; omega) z)))
  refine br_f (by decide) (br_f w3 (cd_csPar 1 (-1) H6 H3 (by omega) (Or.inr ⟨rfl, rfl, rfl⟩) ⟨by omega, by omega⟩ ⟨by omega, by omega⟩ (fun _ => br_f (by decide) (nm_r (show (3 : Int32) + 1 = 4 by decide) ?_)) (fun z => absurd (show cd_pm 1 (-1) t 50 by unfold cd_pm; omega) z)))
  refine br_f (by decide) (br_f w4 (cd_csHigh l t 1 (-50) t 1 H6 H4 (by omega) (by omega) (by omega) (by omega) ⟨by omega, by omega⟩ ⟨by omega, by omega⟩ ⟨by omega, by omega⟩ (Or.inr ⟨rfl, rfl, rfl, rfl, ⟨by omega, by omega⟩, ⟨by omega, by omega⟩, by omega⟩) (br_f (by decide) (nm_r (show (4 : Int32) + 1 = 5 by decide) ?_))))
  refine br_f (by decide) (br_f w5 (cd_csLow r t 1 50 t 1 H6 H5 (by omega) (by omega) (by omega) (by omega) ⟨by omega, by omega⟩ ⟨by omega, by omega⟩ ⟨by omega, by omega⟩ (Or.inr ⟨rfl, rfl, rfl, rfl, ⟨by omega, by omega⟩, ⟨by omega, by omega⟩, by omega⟩) (br_f (by decide) (nm_r (show (5 : Int32) + 1 = 6 by decide) ?_))))
  refine cd_fin r t 1 l t 1 H6 ep eq rfl rfl rfl rfl rfl rfl ⟨by omega, by omega⟩ ⟨by omega, by omega⟩ ⟨by omega, by omega⟩ (by omega) (fun z => f ?_ _ _ _ _ _ _ _ _) (fun z => g ?_ _ _ _ _ _ _ _ _)
  · unfold cd_up at z; omega
  · unfold cd_up at z; omega
end
section
/-! solve: nothing left out -/
theorem cd_s6 {post : Int32 → St2 → Prop} {lv : Int32} {fx fy fw : Int64} {hl hh : Int32} {lx ly lw hx hy hw : Int64} {rm : Int32} {bx bY bw : Int64} {ap aq : Int32} {a1 a2 a3 a4 : Nat → Int32} {pp qq : Int32} {n : Nat} {p q l r t : Int} (X Y Y' : Int) (K : cd_K a1 a2 a3 l r t) (N : cd_N l r t) (M : cd_M p q) (ep : pp = cd_i p) (eq : qq = cd_i q) (lr : l ≤ r)
    (ex : fx = cd_l X) (ey : fy = cd_l Y) (ew : fw = cd_l 1) (hX : (0 < p ∧ X = r) ∨ (p ≤ 0 ∧ X = l)) (hY : (0 < q ∧ Y = 50) ∨ (q ≤ 0 ∧ Y = -50)) (hY' : (0 < q ∧ Y' = t) ∨ (q ≤ 0 ∧ Y' = -50))
    (hp : ∀ (hl hh : Int32) (lx ly lw hx hy hw : Int64), post 1 (7, lv, cd_l X, cd_l Y', cd_l 1, hl, hh, lx, ly, lw, hx, hy, hw, rm, bx, bY, bw, ap, aq, a1, a2, a3, a4)) : wX_solve_42 post pp qq (-1) (n + 1 + 1) 6 7 lv fx fy fw hl hh lx ly lw hx hy hw rm bx bY bw ap aq a1 a2 a3 a4 := by
  subst ex ey ew
  have N' := N
  obtain ⟨n1, n2, n3, n4, n5, n6⟩ := N'
  refine br_f (by decide) (br_f (by decide) (cd_meets K.2.2.2.2.2.2 rfl rfl rfl ⟨by omega, by omega⟩ ⟨by omega, by omega⟩ (fun z => br_t rfl ?_) (fun z => br_f (by decide) (nm_r (show (6 : Int32) + 1 = 7 by decide) (br_t (by decide) ?_)))))
  · refine cd_mv6 K N M lr ep eq (by decide) (by decide) (by decide) (by decide) (by decide) (by decide) (fun y1 hl hh lx ly lw hx hy hw => br_f (by decide) (nm_r (show (6 : Int32) + 1 = 7 by decide) (br_t (by decide) ?_))) (fun y1 hl hh lx ly lw hx hy hw => br_f (by decide) (nm_r (show (6 : Int32) + 1 = 7 by decide) (br_t (by decide) ?_)))
    · have x1 : X = l := by omega
      have x2 : Y' = t := by omega
      subst x1 x2
      exact hp _ _ _ _ _ _ _ _
    · have x1 : X = r := by omega
      have x2 : Y' = t := by omega
      subst x1 x2
      exact hp _ _ _ _ _ _ _ _
  · have x1 : Y' = Y := by omega
    subst x1
    exact hp _ _ _ _ _ _ _ _
theorem cd_s5 {post : Int32 → St2 → Prop} {lv : Int32} {fx fy fw : Int64} {hl hh : Int32} {lx ly lw hx hy hw : Int64} {rm : Int32} {bx bY bw : Int64} {ap aq : Int32} {a1 a2 a3 a4 : Nat → Int32} {pp qq : Int32} {n : Nat} {p q l r t : Int} (X5 X Y Y' : Int) (K : cd_K a1 a2 a3 l r t) (N : cd_N l r t) (M : cd_M p q) (ep : pp = cd_i p) (eq : qq = cd_i q)
    (ex : fx = cd_l X5) (ey : fy = cd_l Y) (ew : fw = cd_l 1) (hX5 : (0 < p ∧ X5 = 50) ∨ (p ≤ 0 ∧ X5 = l)) (hX : (0 < p ∧ X = r) ∨ (p ≤ 0 ∧ X = l)) (hY : (0 < q ∧ Y = 50) ∨ (q ≤ 0 ∧ Y = -50)) (hY' : (0 < q ∧ Y' = t) ∨ (q ≤ 0 ∧ Y' = -50))
    (hp : l ≤ r → ∀ (hl hh : Int32) (lx ly lw hx hy hw : Int64), post 1 (7, lv, cd_l X, cd_l Y', cd_l 1, hl, hh, lx, ly, lw, hx, hy, hw, rm, bx, bY, bw, ap, aq, a1, a2, a3, a4)) (he : r < l → ∀ (fx fy fw : Int64) (hl hh : Int32) (lx ly lw hx hy hw : Int64), post 0 (7, lv, fx, fy, fw, hl, hh, lx, ly, lw, hx, hy, hw, rm, bx, bY, bw, ap, aq, a1, a2, a3, a4)) : wX_solve_42 post pp qq (-1) (n + 1 + 1 + 1) 5 7 lv fx fy fw hl hh lx ly lw hx hy hw rm bx bY bw ap aq a1 a2 a3 a4 := by
  subst ex ey ew
  have N' := N
  obtain ⟨n1, n2, n3, n4, n5, n6⟩ := N'
  refine br_f (by decide) (br_f (by decide) (cd_meets K.2.2.2.2.2.1 rfl rfl rfl ⟨by omega, by omega⟩ ⟨by omega, by omega⟩ (fun z => br_t rfl ?_) (fun z => br_f (by decide) (nm_r (show (5 : Int32) + 1 = 6 by decide) ?_))))
  · refine cd_mv5 K N M ep eq (by decide) (by decide) (by decide) (by decide) (by decide) (fun lr y1 hl hh lx ly lw hx hy hw => br_f (by decide) (nm_r (show (5 : Int32) + 1 = 6 by decide) ?_)) (fun lr y1 hl hh lx ly lw hx hy hw => br_f (by decide) (nm_r (show (5 : Int32) + 1 = 6 by decide) ?_)) (fun lr hl hh lx ly lw hx hy hw => br_t rfl (he lr _ _ _ _ _ _ _ _ _ _ _))
    · have x1 : X = r := by omega
      exact cd_s6 X (-50) Y' K N M ep eq lr (by rw [x1]) rfl rfl hX (by omega) hY' (hp lr)
    · have x1 : X = r := by omega
      exact cd_s6 X 50 Y' K N M ep eq lr (by rw [x1]) rfl rfl hX (by omega) hY' (hp lr)
  · have x1 : X = X5 := by omega
    have lr : l ≤ r := by omega
    exact cd_s6 X Y Y' K N M ep eq lr (by rw [x1]) rfl rfl hX hY hY' (hp lr)
theorem cd_s4 {post : Int32 → St2 → Prop} {lv : Int32} {fx fy fw : Int64} {hl hh : Int32} {lx ly lw hx hy hw : Int64} {rm : Int32} {bx bY bw : Int64} {ap aq : Int32} {a1 a2 a3 a4 : Nat → Int32} {pp qq : Int32} {n : Nat} {p q l r t : Int} (X4 X Y Y' : Int) (K : cd_K a1 a2 a3 l r t) (N : cd_N l r t) (M : cd_M p q) (ep : pp = cd_i p) (eq : qq = cd_i q)
    (ex : fx = cd_l X4) (ey : fy = cd_l Y) (ew : fw = cd_l 1) (hX4 : (0 < p ∧ X4 = 50) ∨ (p ≤ 0 ∧ X4 = -50)) (hX : (0 < p ∧ X = r) ∨ (p ≤ 0 ∧ X = l)) (hY : (0 < q ∧ Y = 50) ∨ (q ≤ 0 ∧ Y = -50)) (hY' : (0 < q ∧ Y' = t) ∨ (q ≤ 0 ∧ Y' = -50))
    (hp : l ≤ r → ∀ (hl hh : Int32) (lx ly lw hx hy hw : Int64), post 1 (7, lv, cd_l X, cd_l Y', cd_l 1, hl, hh, lx, ly, lw, hx, hy, hw, rm, bx, bY, bw, ap, aq, a1, a2, a3, a4)) (he : r < l → ∀ (fx fy fw : Int64) (hl hh : Int32) (lx ly lw hx hy hw : Int64), post 0 (7, lv, fx, fy, fw, hl, hh, lx, ly, lw, hx, hy, hw, rm, bx, bY, bw, ap, aq, a1, a2, a3, a4)) : wX_solve_42 post pp qq (-1) (n + 1 + 1 + 1 + 1) 4 7 lv fx fy fw hl hh lx ly lw hx hy hw rm bx bY bw ap aq a1 a2 a3 a4 := by
  subst ex ey ew
  have N' := N
  obtain ⟨n1, n2, n3, n4, n5, n6⟩ := N'
  refine br_f (by decide) (br_f (by decide) (cd_meets K.2.2.2.2.1 rfl rfl rfl ⟨by omega, by omega⟩ ⟨by omega, by omega⟩ (fun z => br_t rfl ?_) (fun z => br_f (by decide) (nm_r (show (4 : Int32) + 1 = 5 by decide) ?_))))
  · refine cd_mv4 K N M ep eq (by decide) (by decide) (by decide) (by decide) (fun y1 hl hh lx ly lw hx hy hw => br_f (by decide) (nm_r (show (4 : Int32) + 1 = 5 by decide) ?_)) (fun y1 hl hh lx ly lw hx hy hw => br_f (by decide) (nm_r (show (4 : Int32) + 1 = 5 by decide) ?_))
    · exact cd_s5 l X (-50) Y' K N M ep eq rfl rfl rfl (by omega) hX (by omega) hY' hp he
    · exact cd_s5 l X 50 Y' K N M ep eq rfl rfl rfl (by omega) hX (by omega) hY' hp he
  · exact cd_s5 X4 X Y Y' K N M ep eq rfl rfl rfl (by omega) hX hY hY' hp he
theorem cd_solve {post : Int32 → St2 → Prop} {lv : Int32} {fx fy fw : Int64} {hl hh : Int32} {lx ly lw hx hy hw : Int64} {rm : Int32} {bx bY bw : Int64} {ap aq : Int32} {a1 a2 a3 a4 : Nat → Int32} {pp qq : Int32} {p q l r t : Int} (X Y' : Int) (K : cd_K a1 a2 a3 l r t) (N : cd_N l r t) (M : cd_M p q) (ep : pp = cd_i p) (eq : qq = cd_i q)
    (hX : (0 < p ∧ X = r) ∨ (p ≤ 0 ∧ X = l)) (hY' : (0 < q ∧ Y' = t) ∨ (q ≤ 0 ∧ Y' = -50))
    (hp : l ≤ r → ∀ (hl hh : Int32) (lx ly lw hx hy hw : Int64), post 1 (7, lv, cd_l X, cd_l Y', cd_l 1, hl, hh, lx, ly, lw, hx, hy, hw, rm, bx, bY, bw, ap, aq, a1, a2, a3, a4)) (he : r < l → ∀ (fx fy fw : Int64) (hl hh : Int32) (lx ly lw hx hy hw : Int64), post 0 (7, lv, fx, fy, fw, hl, hh, lx, ly, lw, hx, hy, hw, rm, bx, bY, bw, ap, aq, a1, a2, a3, a4)) : wpX_solve post (7, lv, fx, fy, fw, hl, hh, lx, ly, lw, hx, hy, hw, rm, bx, bY, bw, ap, aq, a1, a2, a3, a4) pp qq (-1) := by
  have M' := M
  obtain ⟨m1, m2, m3, m4⟩ := M'
  refine cd_ile p 0 ep cd_i0 ⟨by omega, by omega⟩ ⟨by omega, by omega⟩ (fun z => ?_) (fun z => ?_)
  · refine cd_ile q 0 eq cd_i0 ⟨by omega, by omega⟩ ⟨by omega, by omega⟩ (fun z2 => ⟨0 + 1 + 1 + 1 + 1, ?_⟩) (fun z2 => ⟨0 + 1 + 1 + 1 + 1, ?_⟩)
    · exact cd_s4 (-50) X (-50) Y' K N M ep eq cd_lm50 cd_lm50 cd_l1 (by omega) hX (by omega) hY' hp he
    · exact cd_s4 (-50) X 50 Y' K N M ep eq cd_lm50 cd_l50 cd_l1 (by omega) hX (by omega) hY' hp he
  · refine cd_ile q 0 eq cd_i0 ⟨by omega, by omega⟩ ⟨by omega, by omega⟩ (fun z2 => ⟨0 + 1 + 1 + 1 + 1, ?_⟩) (fun z2 => ⟨0 + 1 + 1 + 1 + 1, ?_⟩)
    · exact cd_s4 50 X (-50) Y' K N M ep eq cd_l50 cd_lm50 cd_l1 (by omega) hX (by omega) hY' hp he
    · exact cd_s4 50 X 50 Y' K N M ep eq cd_l50 cd_l50 cd_l1 (by omega) hX (by omega) hY' hp he
/-! the three solves of spare -/
theorem cd_sp4 {post : Int32 → St2 → Prop} {lv : Int32} {fx fy fw : Int64} {hl hh : Int32} {lx ly lw hx hy hw : Int64} {rm : Int32} {bx bY bw : Int64} {ap aq : Int32} {a1 a2 a3 a4 : Nat → Int32} {pp qq : Int32} {l r t : Int} (K : cd_K a1 a2 a3 l r t) (N : cd_N l r t) (ep : pp = cd_i (-1)) (eq : qq = cd_i 0)
    (hp : post 1 (7, lv, -50, -50, 1, hl, hh, lx, ly, lw, hx, hy, hw, rm, bx, bY, bw, ap, aq, a1, a2, a3, a4)) : wpX_solve post (7, lv, fx, fy, fw, hl, hh, lx, ly, lw, hx, hy, hw, rm, bx, bY, bw, ap, aq, a1, a2, a3, a4) pp qq 4 := by
  obtain ⟨n1, n2, n3, n4, n5, n6⟩ := N
  refine cd_ile (-1) 0 ep cd_i0 ⟨by omega, by omega⟩ ⟨by omega, by omega⟩ (fun z => ?_) (fun z => absurd z (by omega))
  refine cd_ile 0 0 eq cd_i0 ⟨by omega, by omega⟩ ⟨by omega, by omega⟩ (fun z2 => ⟨0 + 1 + 1 + 1 + 1, ?_⟩) (fun z => absurd z (by omega))
  refine br_f (by decide) (br_t rfl (nm_r (show (4 : Int32) + 1 = 5 by decide) ?_))
  refine br_f (by decide) (br_f (by decide) (cd_meets K.2.2.2.2.2.1 cd_lm50 cd_lm50 cd_l1 ⟨by omega, by omega⟩ ⟨by omega, by omega⟩ (fun z => absurd z (by omega)) (fun z => br_f (by decide) (nm_r (show (5 : Int32) + 1 = 6 by decide) ?_))))
  refine br_f (by decide) (br_f (by decide) (cd_meets K.2.2.2.2.2.2 cd_lm50 cd_lm50 cd_l1 ⟨by omega, by omega⟩ ⟨by omega, by omega⟩ (fun z => absurd z (by omega)) (fun z => br_f (by decide) (nm_r (show (6 : Int32) + 1 = 7 by decide) (br_t (by decide) hp)))))
theorem cd_sp5 {post : Int32 → St2 → Prop} {lv : Int32} {fx fy fw : Int64} {hl hh : Int32} {lx ly lw hx hy hw : Int64} {rm : Int32} {bx bY bw : Int64} {ap aq : Int32} {a1 a2 a3 a4 : Nat → Int32} {pp qq : Int32} {l r t : Int} (K : cd_K a1 a2 a3 l r t) (N : cd_N l r t) (ep : pp = cd_i 1) (eq : qq = cd_i 0)
    (hp : post 1 (7, lv, 50, -50, 1, hl, hh, lx, ly, lw, hx, hy, hw, rm, bx, bY, bw, ap, aq, a1, a2, a3, a4)) : wpX_solve post (7, lv, fx, fy, fw, hl, hh, lx, ly, lw, hx, hy, hw, rm, bx, bY, bw, ap, aq, a1, a2, a3, a4) pp qq 5 := by
  obtain ⟨n1, n2, n3, n4, n5, n6⟩ := N
  refine cd_ile 1 0 ep cd_i0 ⟨by omega, by omega⟩ ⟨by omega, by omega⟩ (fun z => absurd z (by omega)) (fun z => ?_)
  refine cd_ile 0 0 eq cd_i0 ⟨by omega, by omega⟩ ⟨by omega, by omega⟩ (fun z2 => ⟨0 + 1 + 1 + 1 + 1, ?_⟩) (fun z => absurd z (by omega))
  refine br_f (by decide) (br_f (by decide) (cd_meets K.2.2.2.2.1 cd_l50 cd_lm50 cd_l1 ⟨by omega, by omega⟩ ⟨by omega, by omega⟩ (fun z => absurd z (by omega)) (fun z => br_f (by decide) (nm_r (show (4 : Int32) + 1 = 5 by decide) ?_))))
  refine br_f (by decide) (br_t rfl (nm_r (show (5 : Int32) + 1 = 6 by decide) ?_))
  refine br_f (by decide) (br_f (by decide) (cd_meets K.2.2.2.2.2.2 cd_l50 cd_lm50 cd_l1 ⟨by omega, by omega⟩ ⟨by omega, by omega⟩ (fun z => absurd z (by omega)) (fun z => br_f (by decide) (nm_r (show (6 : Int32) + 1 = 7 by decide) (br_t (by decide) hp)))))
theorem cd_sp6 {post : Int32 → St2 → Prop} {lv : Int32} {fx fy fw : Int64} {hl hh : Int32} {lx ly lw hx hy hw : Int64} {rm : Int32} {bx bY bw : Int64} {ap aq : Int32} {a1 a2 a3 a4 : Nat → Int32} {pp qq : Int32} {l r t : Int} (K : cd_K a1 a2 a3 l r t) (N : cd_N l r t) (lr : l ≤ r) (ep : pp = cd_i 0) (eq : qq = cd_i 1)
    (hp : ∀ (hl hh : Int32) (lx ly lw hx hy hw : Int64), post 1 (7, lv, cd_l l, cd_l 50, cd_l 1, hl, hh, lx, ly, lw, hx, hy, hw, rm, bx, bY, bw, ap, aq, a1, a2, a3, a4)) : wpX_solve post (7, lv, fx, fy, fw, hl, hh, lx, ly, lw, hx, hy, hw, rm, bx, bY, bw, ap, aq, a1, a2, a3, a4) pp qq 6 := by
  have N' := N
  obtain ⟨n1, n2, n3, n4, n5, n6⟩ := N'
  refine cd_ile 0 0 ep cd_i0 ⟨by omega, by omega⟩ ⟨by omega, by omega⟩ (fun z => ?_) (fun z => absurd z (by omega))
  refine cd_ile 1 0 eq cd_i0 ⟨by omega, by omega⟩ ⟨by omega, by omega⟩ (fun z => absurd z (by omega)) (fun z2 => ⟨0 + 1 + 1 + 1 + 1, ?_⟩)
  refine br_f (by decide) (br_f (by decide) (cd_meets K.2.2.2.2.1 cd_lm50 cd_l50 cd_l1 ⟨by omega, by omega⟩ ⟨by omega, by omega⟩ (fun z => br_t rfl ?_) (fun z => absurd z (by omega))))
  refine cd_mv4 K N (p := 0) (q := 1) ⟨by omega, by omega, by omega, by omega⟩ ep eq (by decide) (by decide) (by decide) (by decide) (fun y1 hl hh lx ly lw hx hy hw => absurd y1 (by omega)) (fun y1 hl hh lx ly lw hx hy hw => br_f (by decide) (nm_r (show (4 : Int32) + 1 = 5 by decide) ?_))
  refine br_f (by decide) (br_f (by decide) (cd_meets K.2.2.2.2.2.1 rfl rfl rfl ⟨by omega, by omega⟩ ⟨by omega, by omega⟩ (fun z => absurd z (by omega)) (fun z => br_f (by decide) (nm_r (show (5 : Int32) + 1 = 6 by decide) ?_))))
  exact br_f (by decide) (br_t rfl (nm_r (show (6 : Int32) + 1 = 7 by decide) (br_t (by decide) (hp _ _ _ _ _ _ _ _))))
end
section
/-! best -/
theorem cd_best {post : Int32 → St2 → Prop} {lv : Int32} {fx fy fw : Int64} {hl hh : Int32} {lx ly lw hx hy hw : Int64} {rm : Int32} {bx bY bw : Int64} {ap aq : Int32} {a1 a2 a3 a4 : Nat → Int32} {pp qq : Int32} {p q l r t : Int} (X Y' : Int) (K : cd_K a1 a2 a3 l r t) (N : cd_N l r t) (M : cd_M p q) (ep : pp = cd_i p) (eq : qq = cd_i q)
    (hX : (0 < p ∧ X = r) ∨ (p ≤ 0 ∧ X = l)) (hY' : (0 < q ∧ Y' = t) ∨ (q ≤ 0 ∧ Y' = -50))
    (hp : l ≤ r → ∀ (hl hh : Int32) (lx ly lw hx hy hw : Int64), post 1 (7, lv, cd_l X, cd_l Y', cd_l 1, hl, hh, lx, ly, lw, hx, hy, hw, 1, cd_l X, cd_l Y', cd_l 1, pp, qq, a1, a2, a3, a4)) (he : r < l → ∀ (fx fy fw : Int64) (hl hh : Int32) (lx ly lw hx hy hw : Int64), post 0 (7, lv, fx, fy, fw, hl, hh, lx, ly, lw, hx, hy, hw, 0, bx, bY, bw, ap, aq, a1, a2, a3, a4)) : wpX_best post (7, lv, fx, fy, fw, hl, hh, lx, ly, lw, hx, hy, hw, rm, bx, bY, bw, ap, aq, a1, a2, a3, a4) pp qq := by
  have M' := M
  obtain ⟨m1, m2, m3, m4⟩ := M'
  have rp : cd_R p := ⟨by omega, by omega⟩
  have rq : cd_R q := ⟨by omega, by omega⟩
  have r9 : cd_R 9 := ⟨by omega, by omega⟩
  have r9' : cd_R (-9) := ⟨by omega, by omega⟩
  have c9 : (9 : Int32) = cd_i 9 := by first | rfl | decide
  have c9' : (-9 : Int32) = cd_i (-9) := by first | rfl | decide
  refine cd_ilt p (-9) ep c9' rp r9' (fun z => absurd z (by omega)) (fun _ => ?_)
  refine cd_ilt 9 p c9 ep r9 rp (fun z => absurd z (by omega)) (fun _ => ?_)
  refine cd_ilt q (-9) eq c9' rq r9' (fun z => absurd z (by omega)) (fun _ => ?_)
  refine cd_ile q 9 eq c9 rq r9 (fun _ => ?_) (fun z => absurd z (by omega))
  exact cd_solve X Y' K N M ep eq hX hY' (fun lr hl hh lx ly lw hx hy hw => ⟨rfl, rfl, br_f (by decide) (hp lr _ _ _ _ _ _ _ _)⟩) (fun lr fx fy fw hl hh lx ly lw hx hy hw => ⟨rfl, rfl, br_t rfl (he lr _ _ _ _ _ _ _ _ _ _ _)⟩)
/-! the divisor of a number and 1 -/
theorem cd_dloop {post : Int64 → Prop} {m : Nat} (hm : m < 2 ^ 31) (hp : post (lN 1)) : wX_divisor_20 post (0 + 1 + 1 + 1) (lN m) (lN 1) 0 := by
  have nle : ∀ k : Nat, 0 < k → k < 2 ^ 31 → ¬ lN k ≤ 0 := fun k h0 h z => by
    have z' : lN k ≤ lN 0 := z
    have := (pk_lLE (by omega) (by omega)).mp z'
    omega
  have ne : ∀ k : Nat, 0 < k → k < 2 ^ 31 → ¬ lN k = 0 := fun k h0 h z => by
    have z' : lN k = lN 0 := z
    have := (pk_lEQ (by omega) (by omega)).mp z'
    omega
  have le0 : lN 0 ≤ 0 := by decide
  have n64 : ¬ (64 : Int32) ≤ 0 := by decide
  have n641 : ¬ (64 : Int32) ≤ 1 := by decide
  have n642 : ¬ (64 : Int32) ≤ 2 := by decide
  have s1 : (0 : Int32) + 1 = 1 := by decide
  have s2 : (1 : Int32) + 1 = 2 := by decide
  by_cases h0 : m = 0
  · subst h0
    exact br_f n64 (br_t le0 hp)
  · have hm0 : 0 < m := by omega
    by_cases h1 : m = 1
    · have e : lN 1 - lN 1 / lN m * lN m = lN 0 := by rw [pk_lRem (by omega) hm0 (by omega), h1]
      have e1 : lN m = lN 1 := by rw [h1]
      refine br_f n64 (br_f (nle m hm0 hm) ⟨ne m hm0 hm, nm_r e (nm_r s1 (br_f n641 (br_t le0 ?_)))⟩)
      rw [e1]
      exact hp
    · have e : lN 1 - lN 1 / lN m * lN m = lN 1 := by rw [pk_lRem (by omega) hm0 (by omega), Nat.mod_eq_of_lt (by omega)]
      have e1 : lN m - lN m / lN 1 * lN 1 = lN 0 := by rw [pk_lRem (by omega) (by omega) (by omega), Nat.mod_one]
      exact br_f n64 (br_f (nle m hm0 hm) ⟨ne m hm0 hm, nm_r e (nm_r s1 (br_f n641 (br_f (nle 1 (by omega) (by omega)) ⟨ne 1 (by omega) (by omega), nm_r e1 (nm_r s2 (br_f n642 (br_t le0 hp)))⟩)))⟩)
theorem cd_lN1 : lN 1 = cd_l 1 := cd_lN 1
theorem cd_div {post : Int64 → Prop} {u : St0} {nn dd : Int64} {n : Int} (r : cd_R n) (en : nn = cd_l n) (ed : dd = cd_l 1) (hp : post (cd_l 1)) : wpX_divisor post u nn dd := by
  have key : ∀ m : Nat, m < 2 ^ 31 → ∃ fu : Nat, wX_divisor_20 post fu (lN m) dd 0 := fun m hm => by
    rw [ed, ← cd_lN1]
    exact ⟨_, cd_dloop hm (by rw [cd_lN1]; exact hp)⟩
  refine cd_lle 0 n cd_l0 en ⟨by omega, by omega⟩ r (fun z => ?_) (fun z => ?_)
  · have e : nn = lN n.toNat := by rw [en, cd_lN, show ((n.toNat : Nat) : Int) = n by omega]
    rw [e]
    exact key n.toNat (by omega)
  · have e : -nn = lN (-n).toNat := by rw [en, cd_lneg, cd_lN, show (((-n).toNat : Nat) : Int) = -n by omega]
    exact nm_r e (key (-n).toNat (by omega))
theorem cd_ne1 : ¬ cd_l 1 = 0 := by decide
theorem cd_num {post : Int32 → Prop} {ct lv : Int32} {fx fy fw : Int64} {hl hh : Int32} {lx ly lw hx hy hw : Int64} {rm : Int32} {bx bY bw : Int64} {ap aq : Int32} {a1 a2 a3 a4 : Nat → Int32} {k : Int32} {n : Int} (h0 : ¬ k < 0) (h2 : k ≤ 2) (hr : ¬ rm = 0) (ew : bw = cd_l 1) (r : cd_R n) (hu : ∀ P : Int64 → Prop, P (cd_l n) → wpX_upper P (ct, lv, fx, fy, fw, hl, hh, lx, ly, lw, hx, hy, hw, rm, bx, bY, bw, ap, aq, a1, a2, a3, a4) k) (hp : post (cd_i n)) : wpX_numerator post (ct, lv, fx, fy, fw, hl, hh, lx, ly, lw, hx, hy, hw, rm, bx, bY, bw, ap, aq, a1, a2, a3, a4) k := by
  have e : (cd_l n / cd_l 1).toInt32 = cd_i n := by rw [← cd_l1, Int64.div_one, cd_li]
  exact br_f hr (br_f h0 (br_t h2 (hu _ (cd_div r rfl ew ⟨cd_ne1, ek_v (P := post) e hp⟩))))
theorem cd_den {post : Int32 → Prop} {ct lv : Int32} {fx fy fw : Int64} {hl hh : Int32} {lx ly lw hx hy hw : Int64} {rm : Int32} {bx bY bw : Int64} {ap aq : Int32} {a1 a2 a3 a4 : Nat → Int32} {k : Int32} {n : Int} (h0 : ¬ k < 0) (h2 : k ≤ 2) (hr : ¬ rm = 0) (ew : bw = cd_l 1) (r : cd_R n) (hu : ∀ P : Int64 → Prop, P (cd_l n) → wpX_upper P (ct, lv, fx, fy, fw, hl, hh, lx, ly, lw, hx, hy, hw, rm, bx, bY, bw, ap, aq, a1, a2, a3, a4) k) (hp : post 1) : wpX_denominator post (ct, lv, fx, fy, fw, hl, hh, lx, ly, lw, hx, hy, hw, rm, bx, bY, bw, ap, aq, a1, a2, a3, a4) k := by
  have e : (bw / cd_l 1).toInt32 = 1 := by rw [ew]; decide
  exact br_f hr (br_f h0 (br_t h2 (hu _ (cd_div r rfl ew ⟨cd_ne1, ek_v (P := post) e hp⟩))))
theorem cd_up1 {P : Int64 → Prop} {ct lv : Int32} {fx fy fw : Int64} {hl hh : Int32} {lx ly lw hx hy hw : Int64} {rm : Int32} {bx bY bw : Int64} {ap aq : Int32} {a1 a2 a3 a4 : Nat → Int32} {n : Int} (e : bx = cd_l n) (h : P (cd_l n)) : wpX_upper P (ct, lv, fx, fy, fw, hl, hh, lx, ly, lw, hx, hy, hw, rm, bx, bY, bw, ap, aq, a1, a2, a3, a4) 1 := br_t rfl (ek_v (P := P) e h)
theorem cd_up2 {P : Int64 → Prop} {ct lv : Int32} {fx fy fw : Int64} {hl hh : Int32} {lx ly lw hx hy hw : Int64} {rm : Int32} {bx bY bw : Int64} {ap aq : Int32} {a1 a2 a3 a4 : Nat → Int32} {n : Int} (e : bY = cd_l n) (h : P (cd_l n)) : wpX_upper P (ct, lv, fx, fy, fw, hl, hh, lx, ly, lw, hx, hy, hw, rm, bx, bY, bw, ap, aq, a1, a2, a3, a4) 2 := br_f (by decide) (br_t rfl (ek_v (P := P) e h))
theorem cd_up0 {P : Int64 → Prop} {ct lv : Int32} {fx fy fw : Int64} {hl hh : Int32} {lx ly lw hx hy hw : Int64} {rm : Int32} {bx bY bw : Int64} {ap aq : Int32} {a1 a2 a3 a4 : Nat → Int32} {p q X Y : Int} (rp : cd_R p) (rq : cd_R q) (ep : ap = cd_i p) (eq : aq = cd_i q) (ex : bx = cd_l X) (ey : bY = cd_l Y) (h : P (cd_l (p * X + q * Y))) : wpX_upper P (ct, lv, fx, fy, fw, hl, hh, lx, ly, lw, hx, hy, hw, rm, bx, bY, bw, ap, aq, a1, a2, a3, a4) 0 := by
  have e : ap.toInt64 * bx + aq.toInt64 * bY = cd_l (p * X + q * Y) := by rw [ep, eq, ex, ey, cd_il rp, cd_il rq, cd_lmul, cd_lmul, cd_ladd]
  exact br_f (by decide) (br_f (by decide) (ek_v (P := P) e h))
/-! conditions, test, add -/
theorem cd_isC {post : Int32 → Prop} {u : St0} {xa xb xc : Int32} {A B C : Int} (ea : xa = cd_i A) (eb : xb = cd_i B) (ec : xc = cd_i C) (hA : -9 ≤ A ∧ A ≤ 9) (hB : -9 ≤ B ∧ B ≤ 9) (hC : -99 ≤ C ∧ C ≤ 99) (hn : ¬ A = 0 ∨ ¬ B = 0) (hp : post 1) : wpX_isCondition post u xa xb xc := by
  have rA : cd_R A := ⟨by omega, by omega⟩
  have rB : cd_R B := ⟨by omega, by omega⟩
  have rC : cd_R C := ⟨by omega, by omega⟩
  have r0 : cd_R 0 := ⟨by omega, by omega⟩
  have r9 : cd_R 9 := ⟨by omega, by omega⟩
  have r9' : cd_R (-9) := ⟨by omega, by omega⟩
  have r99 : cd_R 99 := ⟨by omega, by omega⟩
  have r99' : cd_R (-99) := ⟨by omega, by omega⟩
  have c9 : (9 : Int32) = cd_i 9 := by first | rfl | decide
  have c9' : (-9 : Int32) = cd_i (-9) := by first | rfl | decide
  have c99 : (99 : Int32) = cd_i 99 := by first | rfl | decide
  have c99' : (-99 : Int32) = cd_i (-99) := by first | rfl | decide
  refine cd_ilt A (-9) ea c9' rA r9' (fun z => absurd z (by omega)) (fun _ => ?_)
  refine cd_ilt 9 A c9 ea r9 rA (fun z => absurd z (by omega)) (fun _ => ?_)
  refine cd_ilt B (-9) eb c9' rB r9' (fun z => absurd z (by omega)) (fun _ => ?_)
  refine cd_ilt 9 B c9 eb r9 rB (fun z => absurd z (by omega)) (fun _ => ?_)
  refine cd_ilt C (-99) ec c99' rC r99' (fun z => absurd z (by omega)) (fun _ => ?_)
  refine cd_ilt 99 C c99 ec r99 rC (fun z => absurd z (by omega)) (fun _ => ?_)
  exact br_f (by decide) (cd_ieq A 0 ea cd_i0 rA r0 (fun z => cd_ieq B 0 eb cd_i0 rB r0 (fun z2 => absurd hn (by omega)) (fun _ => hp)) (fun _ => hp))
theorem cd_test {post : Int32 → Prop} {ct lv : Int32} {fx fy fw : Int64} {hl hh : Int32} {lx ly lw hx hy hw : Int64} {rm : Int32} {bx bY bw : Int64} {ap aq : Int32} {a1 a2 a3 a4 : Nat → Int32} {xc : Int32} {X Y : Int} (hX : -99 ≤ X ∧ X ≤ 99) (ec : xc = cd_i X) (hr : ¬ rm = 0) (ex : bx = cd_l X) (ey : bY = cd_l Y) (ew : bw = cd_l 1) (hp : post 1) : wpX_test post (ct, lv, fx, fy, fw, hl, hh, lx, ly, lw, hx, hy, hw, rm, bx, bY, bw, ap, aq, a1, a2, a3, a4) 1 0 xc := by
  have c1 : (1 : Int32) = cd_i 1 := by first | rfl | decide
  have e : ((1 : Int32).toInt64 * bx + (0 : Int32).toInt64 * bY) - xc.toInt64 * bw = 0 := by
    rw [c1, cd_i0, ec, cd_il ⟨by omega, by omega⟩, cd_il ⟨by omega, by omega⟩, cd_il ⟨by omega, by omega⟩, ex, ey, ew, cd_lmul, cd_lmul, cd_lmul, cd_ladd, cd_lsub, cd_l0]
    exact congrArg cd_l (by omega)
  exact br_f hr (cd_isC (A := 1) (B := 0) c1 cd_i0 ec (by omega) (by omega) hX (by omega) (br_f (by decide) (nm_r e (br_t rfl hp))))
theorem cd_add {post : Int32 → St2 → Prop} {ct lv : Int32} {fx fy fw : Int64} {hl hh : Int32} {lx ly lw hx hy hw : Int64} {rm : Int32} {bx bY bw : Int64} {ap aq : Int32} {a1 a2 a3 a4 : Nat → Int32} {xa xb xc c' res : Int32} {A B C : Int} (m : Nat) (ea : xa = cd_i A) (eb : xb = cd_i B) (ec : xc = cd_i C) (hA : -9 ≤ A ∧ A ≤ 9) (hB : -9 ≤ B ∧ B ≤ 9) (hC : -99 ≤ C ∧ C ≤ 99) (hn : ¬ A = 0 ∨ ¬ B = 0)
    (hc : ct < 14) (hi : vp_in ct 14) (hm : ct.toNatClampNeg = m) (h1 : ct + 1 = c') (h4 : c' - 4 = res) (hp : post res (c', lv, fx, fy, fw, hl, hh, lx, ly, lw, hx, hy, hw, rm, bx, bY, bw, ap, aq, upd a1 m xa, upd a2 m xb, upd a3 m xc, a4)) : wpX_add post (ct, lv, fx, fy, fw, hl, hh, lx, ly, lw, hx, hy, hw, rm, bx, bY, bw, ap, aq, a1, a2, a3, a4) xa xb xc := by
  subst hm h1 h4
  exact cd_isC (u := ()) ea eb ec hA hB hC hn (br_f (by decide) (br_t hc ⟨hi, nm_e ⟨hi, nm_e ⟨hi, nm_e (nm_e hp)⟩⟩⟩))
/-- what the constructor leaves in the arrays -/
def cd_I (a1 a2 a3 : Nat → Int32) : Prop := (a1 0 = 1 ∧ a1 1 = -1 ∧ a1 2 = 0 ∧ a1 3 = 0) ∧ (a2 0 = 0 ∧ a2 1 = 0 ∧ a2 2 = 1 ∧ a2 3 = -1) ∧ (a3 0 = 50 ∧ a3 1 = 50 ∧ a3 2 = 50 ∧ a3 3 = 50)
theorem cd_init {post : St2 → Prop} {mc ms : Nat} {ct lv : Int32} {fx fy fw : Int64} {hl hh : Int32} {lx ly lw hx hy hw : Int64} {rm : Int32} {bx bY bw : Int64} {ap aq : Int32} (hc : 4 ≤ mc) (hs : 50 ≤ ms)
    (hp : ∀ a1 a2 a3 a4 : Nat → Int32, cd_I a1 a2 a3 → post (4, 1, fx, fy, fw, hl, hh, lx, ly, lw, hx, hy, hw, rm, bx, bY, bw, ap, aq, a1, a2, a3, a4)) : wpX_init post mc ms (ct, lv, fx, fy, fw, hl, hh, lx, ly, lw, hx, hy, hw, rm, bx, bY, bw, ap, aq) := by
  refine ⟨by omega, by omega, by omega, by omega, by omega, by omega, by omega, by omega, nm_e (nm_e (nm_e (nm_e ⟨0 + 1 + 1 + 1 + 1 + 1, ?_⟩)))⟩
  refine br_f (by decide) ⟨pk_in 0 14 (by omega), nm_e (nm_r (show (0 : Int32) + 1 = 1 by decide) ?_)⟩
  refine br_f (by decide) ⟨pk_in 1 14 (by omega), nm_e (nm_r (show (1 : Int32) + 1 = 2 by decide) ?_)⟩
  refine br_f (by decide) ⟨pk_in 2 14 (by omega), nm_e (nm_r (show (2 : Int32) + 1 = 3 by decide) ?_)⟩
  refine br_f (by decide) ⟨pk_in 3 14 (by omega), nm_e (nm_r (show (3 : Int32) + 1 = 4 by decide) ?_)⟩
  exact br_t (by decide) (nm_e (hp _ _ _ _ ⟨⟨rfl, rfl, rfl, rfl⟩, ⟨rfl, rfl, rfl, rfl⟩, ⟨rfl, rfl, rfl, rfl⟩⟩))
theorem cd_mkK {a1 a2 a3 : Nat → Int32} {l r t : Int} {x6 x7 x8 : Int32} (I : cd_I a1 a2 a3) (N : cd_N l r t) (e6 : x6 = cd_i l) (e7 : x7 = cd_i r) (e8 : x8 = cd_i t) :
    cd_K (upd (upd (upd a1 4 (-1)) 5 1) 6 0) (upd (upd (upd a2 4 0) 5 0) 6 1) (upd (upd (upd a3 4 (-x6)) 5 x7) 6 x8) l r t := by
  obtain ⟨⟨p0, p1, p2, p3⟩, ⟨q0, q1, q2, q3⟩, ⟨s0, s1, s2, s3⟩⟩ := I
  obtain ⟨n1, n2, n3, n4, n5, n6⟩ := N
  have c0 : (0 : Int32) = cd_i 0 := cd_i0
  have c1 : (1 : Int32) = cd_i 1 := by first | rfl | decide
  have c1' : (-1 : Int32) = cd_i (-1) := by first | rfl | decide
  have c50 : (50 : Int32) = cd_i 50 := by first | rfl | decide
  refine ⟨⟨pk_in 0 14 (by omega), ⟨⟨by omega, by omega⟩, ⟨by omega, by omega⟩, ⟨by omega, by omega⟩⟩, p0.trans c1, q0.trans c0, s0.trans c50⟩, ?_⟩
  refine ⟨⟨pk_in 1 14 (by omega), ⟨⟨by omega, by omega⟩, ⟨by omega, by omega⟩, ⟨by omega, by omega⟩⟩, p1.trans c1', q1.trans c0, s1.trans c50⟩, ?_⟩
  refine ⟨⟨pk_in 2 14 (by omega), ⟨⟨by omega, by omega⟩, ⟨by omega, by omega⟩, ⟨by omega, by omega⟩⟩, p2.trans c0, q2.trans c1, s2.trans c50⟩, ?_⟩
  refine ⟨⟨pk_in 3 14 (by omega), ⟨⟨by omega, by omega⟩, ⟨by omega, by omega⟩, ⟨by omega, by omega⟩⟩, p3.trans c0, q3.trans c1', s3.trans c50⟩, ?_⟩
  refine ⟨⟨pk_in 4 14 (by omega), ⟨⟨by omega, by omega⟩, ⟨by omega, by omega⟩, ⟨by omega, by omega⟩⟩, c1', c0, ?_⟩, ?_⟩
  · show -x6 = cd_i (-l)
    rw [e6, cd_ineg]
  · exact ⟨⟨pk_in 5 14 (by omega), ⟨⟨by omega, by omega⟩, ⟨by omega, by omega⟩, ⟨by omega, by omega⟩⟩, c1, c0, e7⟩, ⟨pk_in 6 14 (by omega), ⟨⟨by omega, by omega⟩, ⟨by omega, by omega⟩, ⟨by omega, by omega⟩⟩, c0, c1, e8⟩⟩
/-! spare: none is -/
theorem cd_spare {post : Int32 → St2 → Prop} {lv : Int32} {fx fy fw : Int64} {hl hh : Int32} {lx ly lw hx hy hw : Int64} {rm : Int32} {bx bY bw : Int64} {ap aq : Int32} {a1 a2 a3 a4 : Nat → Int32} {l r t : Int} (K : cd_K a1 a2 a3 l r t) (N : cd_N l r t) (lr : l ≤ r) (hp : ∀ (fx fy fw : Int64) (hl hh : Int32) (lx ly lw hx hy hw : Int64), post 0 (7, lv, fx, fy, fw, hl, hh, lx, ly, lw, hx, hy, hw, rm, bx, bY, bw, ap, aq, a1, a2, a3, a4)) : wpX_spare post (7, lv, fx, fy, fw, hl, hh, lx, ly, lw, hx, hy, hw, rm, bx, bY, bw, ap, aq, a1, a2, a3, a4) := by
  have N' := N
  obtain ⟨n1, n2, n3, n4, n5, n6⟩ := N'
  have H4 := K.2.2.2.2.1
  have H5 := K.2.2.2.2.2.1
  have H6 := K.2.2.2.2.2.2
  refine ⟨0 + 1 + 1 + 1 + 1, ?_⟩
  refine br_f (by decide) ⟨H4.1, H4.1, cd_sp4 K N H4.2.2.1 H4.2.2.2.1 (br_f (by decide) (cd_meets H4 cd_lm50 cd_lm50 cd_l1 ⟨by omega, by omega⟩ ⟨by omega, by omega⟩ (fun z => br_t rfl (nm_r (show (0 : Int32) + 0 = 0 by decide) (nm_r (show (4 : Int32) + 1 = 5 by decide) ?_))) (fun z => absurd z (by omega))))⟩
  refine br_f (by decide) ⟨H5.1, H5.1, cd_sp5 K N H5.2.2.1 H5.2.2.2.1 (br_f (by decide) (cd_meets H5 cd_l50 cd_lm50 cd_l1 ⟨by omega, by omega⟩ ⟨by omega, by omega⟩ (fun z => br_t rfl (nm_r (show (0 : Int32) + 0 = 0 by decide) (nm_r (show (5 : Int32) + 1 = 6 by decide) ?_))) (fun z => absurd z (by omega))))⟩
  refine br_f (by decide) ⟨H6.1, H6.1, cd_sp6 K N lr H6.2.2.1 H6.2.2.2.1 (fun hl hh lx ly lw hx hy hw => br_f (by decide) (cd_meets H6 rfl rfl rfl ⟨by omega, by omega⟩ ⟨by omega, by omega⟩ (fun z => br_t rfl (nm_r (show (0 : Int32) + 0 = 0 by decide) (nm_r (show (6 : Int32) + 1 = 7 by decide) ?_))) (fun z => absurd z (by omega))))⟩
  exact br_t (by decide) (hp _ _ _ _ _ _ _ _ _ _ _)
end
section
/-! the law -/
theorem cd_mulR {p X : Int} (h1 : -9 ≤ p ∧ p ≤ 9) (h2 : -99 ≤ X ∧ X ≤ 99) : -891 ≤ p * X ∧ p * X ≤ 891 := by
  have h : (p * X).natAbs ≤ 9 * 99 := by
    rw [Int.natAbs_mul]
    exact Nat.mul_le_mul (by omega) (by omega)
  omega
theorem cd_195 {post : Int32 → St0 → Prop} {mc ms kc ks : Nat} {lv : Int32} {fx fy fw : Int64} {hl hh : Int32} {lx ly lw hx hy hw : Int64} {a1 a2 a3 a4 : Nat → Int32} {x9 x10 x11 z0 : Int32} {p q l r t X Y : Int} (K : cd_K a1 a2 a3 l r t) (N : cd_N l r t) (M : cd_M p q) (lr : l ≤ r)
    (e9 : x9 = cd_i p) (e10 : x10 = cd_i q) (e11 : x11 = cd_i X) (ez : z0 = cd_i Y) (hX : -99 ≤ X ∧ X ≤ 99) (hY : -99 ≤ Y ∧ Y ≤ 99) (hp : post 1 ()) :
    wL_lawOf_195 post mc ms x9 x10 x11 z0 kc ks 7 lv fx fy fw hl hh lx ly lw hx hy hw 1 (cd_l X) (cd_l Y) (cd_l 1) x9 x10 a1 a2 a3 a4 := by
  have b1 := cd_mulR (p := p) ⟨M.1, M.2.1⟩ hX
  have b2 := cd_mulR (p := q) ⟨M.2.2.1, M.2.2.2⟩ hY
  have rp : cd_R p := ⟨by omega, by omega⟩
  have rq : cd_R q := ⟨by omega, by omega⟩
  have rX : cd_R X := ⟨by omega, by omega⟩
  have rY : cd_R Y := ⟨by omega, by omega⟩
  have rS : cd_R (p * X + q * Y) := ⟨by omega, by omega⟩
  have e0 : x9 * x11 + x10 * z0 = cd_i (p * X + q * Y) := by rw [e9, e10, e11, ez, cd_imul, cd_imul, cd_iadd]
  refine cd_num (by decide) (by decide) (by decide) rfl rX (fun P h => cd_up1 rfl h) (br_t e11.symm ?_)
  refine cd_num (by decide) (by decide) (by decide) rfl rY (fun P h => cd_up2 rfl h) (br_t ez.symm ?_)
  refine cd_den (by decide) (by decide) (by decide) rfl rX (fun P h => cd_up1 rfl h) (br_t rfl ?_)
  refine cd_num (by decide) (by decide) (by decide) rfl rS (fun P h => cd_up0 rp rq e9 e10 rfl rfl h) (br_t e0.symm ?_)
  refine cd_test (Y := Y) hX e11 (by decide) rfl rfl rfl (br_t rfl ?_)
  exact cd_spare K N lr (fun fx fy fw hl hh lx ly lw hx hy hw => br_t rfl hp)
theorem cd_130ok {post : Int32 → St0 → Prop} {mc ms kc ks : Nat} {lv : Int32} {fx fy fw : Int64} {hl hh : Int32} {lx ly lw hx hy hw : Int64} {a1 a2 a3 a4 : Nat → Int32} {x6 x7 x8 x9 x10 : Int32} {p q l r t X Y : Int} (K : cd_K a1 a2 a3 l r t) (N : cd_N l r t) (M : cd_M p q) (lr : l ≤ r)
    (e6 : x6 = cd_i l) (e7 : x7 = cd_i r) (e8 : x8 = cd_i t) (e9 : x9 = cd_i p) (e10 : x10 = cd_i q) (hX : (0 < p ∧ X = r) ∨ (p ≤ 0 ∧ X = l)) (hY : (0 < q ∧ Y = t) ∨ (q ≤ 0 ∧ Y = -50)) (hp : post 1 ()) :
    wL_lawOf_130 post mc ms x6 x7 x8 x9 x10 1 1 kc ks 7 lv fx fy fw hl hh lx ly lw hx hy hw 1 (cd_l X) (cd_l Y) (cd_l 1) x9 x10 a1 a2 a3 a4 := by
  have N' := N
  obtain ⟨n1, n2, n3, n4, n5, n6⟩ := N'
  have M' := M
  obtain ⟨m1, m2, m3, m4⟩ := M'
  have r0 : cd_R 0 := ⟨by omega, by omega⟩
  have rl : cd_R l := ⟨by omega, by omega⟩
  have rr : cd_R r := ⟨by omega, by omega⟩
  have rp : cd_R p := ⟨by omega, by omega⟩
  have rq : cd_R q := ⟨by omega, by omega⟩
  have bX : -99 ≤ X ∧ X ≤ 99 := by omega
  have bY : -99 ≤ Y ∧ Y ≤ 99 := by omega
  refine br_t rfl (cd_ile l r e6 e7 rl rr (fun _ => cd_ile p 0 e9 cd_i0 rp r0 (fun z => ?_) (fun z => ?_)) (fun z => absurd z (by omega)))
  · have x1 : X = l := by omega
    refine cd_ile q 0 e10 cd_i0 rq r0 (fun z2 => ?_) (fun z2 => ?_)
    · have y1 : Y = -50 := by omega
      exact cd_195 K N M lr e9 e10 (by rw [x1]; exact e6) (by rw [y1]; exact cd_im50) bX bY hp
    · have y1 : Y = t := by omega
      exact cd_195 K N M lr e9 e10 (by rw [x1]; exact e6) (by rw [y1]; exact e8) bX bY hp
  · have x1 : X = r := by omega
    refine cd_ile q 0 e10 cd_i0 rq r0 (fun z2 => ?_) (fun z2 => ?_)
    · have y1 : Y = -50 := by omega
      exact cd_195 K N M lr e9 e10 (by rw [x1]; exact e7) (by rw [y1]; exact cd_im50) bX bY hp
    · have y1 : Y = t := by omega
      exact cd_195 K N M lr e9 e10 (by rw [x1]; exact e7) (by rw [y1]; exact e8) bX bY hp
theorem cd_130no {post : Int32 → St0 → Prop} {mc ms kc ks : Nat} {lv : Int32} {fx fy fw : Int64} {hl hh : Int32} {lx ly lw hx hy hw : Int64} {rm : Int32} {bx bY bw : Int64} {ap aq : Int32} {a1 a2 a3 a4 : Nat → Int32} {x6 x7 x8 x9 x10 : Int32} {l r t : Int} (N : cd_N l r t) (lr : r < l) (e6 : x6 = cd_i l) (e7 : x7 = cd_i r) (hp : post 1 ()) :
    wL_lawOf_130 post mc ms x6 x7 x8 x9 x10 0 0 kc ks 7 lv fx fy fw hl hh lx ly lw hx hy hw 0 bx bY bw ap aq a1 a2 a3 a4 := by
  obtain ⟨n1, n2, n3, n4, n5, n6⟩ := N
  exact br_t rfl (cd_ile l r e6 e7 ⟨by omega, by omega⟩ ⟨by omega, by omega⟩ (fun z => absurd z (by omega)) (fun _ => br_t rfl (br_t rfl (br_t rfl (br_t rfl hp)))))
theorem cd_law {post : Int32 → St0 → Prop} {p0 p1 p2 p3 p4 : Int32} (hp : post 1 ()) : wpL_lawOf post 5 73 () p0 p1 p2 p3 p4 := by
  obtain ⟨l, l1, l2, e6⟩ := cd_cell p0 (d := 90) (dd := 90) (mm := 45) 45 (by omega) (by omega) rfl (by first | rfl | decide)
  obtain ⟨r, r1, r2, e7⟩ := cd_cell p1 (d := 90) (dd := 90) (mm := 45) 45 (by omega) (by omega) rfl (by first | rfl | decide)
  obtain ⟨t, t1, t2, e8⟩ := cd_cell p2 (d := 90) (dd := 90) (mm := 45) 45 (by omega) (by omega) rfl (by first | rfl | decide)
  obtain ⟨p, p1, p2, e9⟩ := cd_cell p3 (d := 19) (dd := 19) (mm := 9) 9 (by omega) (by omega) rfl (by first | rfl | decide)
  obtain ⟨q, q1, q2, e10⟩ := cd_cell p4 (d := 19) (dd := 19) (mm := 9) 9 (by omega) (by omega) rfl (by first | rfl | decide)
  have N : cd_N l r t := ⟨by omega, by omega, by omega, by omega, by omega, by omega⟩
  have M : cd_M p q := ⟨by omega, by omega, by omega, by omega⟩
  have c1 : (1 : Int32) = cd_i 1 := by first | rfl | decide
  have c1' : (-1 : Int32) = cd_i (-1) := by first | rfl | decide
  obtain ⟨X, hX⟩ : ∃ X, (0 < p ∧ X = r) ∨ (p ≤ 0 ∧ X = l) := by
    rcases Int.lt_or_le 0 p with h | h
    · exact ⟨r, Or.inl ⟨h, rfl⟩⟩
    · exact ⟨l, Or.inr ⟨h, rfl⟩⟩
  obtain ⟨Y, hY⟩ : ∃ Y, (0 < q ∧ Y = t) ∨ (q ≤ 0 ∧ Y = -50) := by
    rcases Int.lt_or_le 0 q with h | h
    · exact ⟨t, Or.inl ⟨h, rfl⟩⟩
    · exact ⟨-50, Or.inr ⟨h, rfl⟩⟩
  refine ⟨by omega, by omega, 4, 50, by omega, by omega, cd_init (by omega) (by omega) (fun a1 a2 a3 a4 I => ?_)⟩
  refine ⟨by decide, nm_r e6 ⟨by decide, nm_r e7 ⟨by decide, nm_r e8 ⟨by decide, nm_r e9 ⟨by decide, nm_r e10 ?_⟩⟩⟩⟩⟩
  refine cd_add 4 (A := -1) (B := 0) (C := -l) (c' := 5) (res := 1) c1' cd_i0 (cd_ineg l) (by omega) (by omega) (by omega) (by omega) (by decide) (pk_in 4 14 (by omega)) rfl (by decide) (by decide) ?_
  refine cd_add 5 (A := 1) (B := 0) (C := r) (c' := 6) (res := 2) c1 cd_i0 rfl (by omega) (by omega) (by omega) (by omega) (by decide) (pk_in 5 14 (by omega)) rfl (by decide) (by decide) ?_
  refine cd_add 6 (A := 0) (B := 1) (C := t) (c' := 7) (res := 3) cd_i0 c1 rfl (by omega) (by omega) (by omega) (by omega) (by decide) (pk_in 6 14 (by omega)) rfl (by decide) (by decide) ?_
  have K := cd_mkK I N rfl rfl rfl
  refine br_t rfl (cd_best X Y K N M rfl rfl hX hY (fun lr hl hh lx ly lw hx hy hw => ?_) (fun lr fx fy fw hl hh lx ly lw hx hy hw => ?_))
  · exact cd_ilt r l rfl rfl ⟨by omega, by omega⟩ ⟨by omega, by omega⟩ (fun z => absurd z (by omega)) (fun _ => cd_130ok K N M lr rfl rfl rfl rfl rfl hX hY hp)
  · exact cd_ilt r l rfl rfl ⟨by omega, by omega⟩ ⟨by omega, by omega⟩ (fun _ => cd_130no (rm := 0) N lr rfl rfl hp) (fun z => absurd z (by omega))
theorem cd_cellAt {post : Int32 → Prop} {L : Nat} {xs : Nat → Int32} {u : St0} {x : Int32} (c : Nat) (hL : L ≤ 5) (hc : c < 5) (e : x = nI c) (h : ∀ v, post v) : wpL_cellAt post L xs u x :=
  pk_le L c (fun _ => h 0) (fun z => ⟨pk_in c L z e (by omega), h _⟩) rfl e (by omega) (by omega)
theorem i_vc (xs : Nat → Int32) (L : Nat) (hL : L ≤ 5) : wpL_law (fun r => r = 1) L xs :=
  cd_cellAt 0 hL (by omega) rfl (fun _ => cd_cellAt 1 hL (by omega) rfl (fun _ => cd_cellAt 2 hL (by omega) rfl (fun _ => cd_cellAt 3 hL (by omega) rfl (fun _ => cd_cellAt 4 hL (by omega) rfl (fun _ => ⟨5, 73, by omega, by omega, cd_law rfl⟩)))))
end
