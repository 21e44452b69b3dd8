section
/-! Bool twins of the printed predicates: the pieces. A value is brought to a literal (zq_fN, zq_fc) so that the kernel computes with it. -/
/-- a natural, brought to a literal -/
def zq_fN (i : Nat) (k : Nat → Bool) : Bool := match i with
  | 0 => k 0
  | Nat.succ m => k (Nat.succ m)
theorem zq_fN_e (i : Nat) (k : Nat → Bool) : zq_fN i k = k i := by cases i <;> rfl
/-- an int, brought to a literal -/
def zq_fc (e : Int32) (k : Int32 → Bool) : Bool := zq_fN e.toUInt32.toNat (fun n => k (Int32.ofNat n))
theorem zq_ofTo (e : Int32) : Int32.ofNat e.toUInt32.toNat = e := by
  apply Int32.toBitVec_inj.mp
  apply BitVec.eq_of_toNat_eq
  have h : e.toBitVec.toNat < 2 ^ 32 := e.toBitVec.isLt
  show e.toBitVec.toNat % 2 ^ 32 = e.toBitVec.toNat
  exact Nat.mod_eq_of_lt h
theorem zq_fc_e (e : Int32) (k : Int32 → Bool) : zq_fc e k = k e := by
  unfold zq_fc
  rw [zq_fN_e, zq_ofTo]
/-- a store -/
def zq_fu (a : Nat → Int32) (i : Nat) (v : Int32) (k : (Nat → Int32) → Bool) : Bool := zq_fN i (fun i' => zq_fc v (fun v' => k (upd a i' v')))
theorem zq_fu_e (a : Nat → Int32) (i : Nat) (v : Int32) (k : (Nat → Int32) → Bool) : zq_fu a i v k = k (upd a i v) := by
  unfold zq_fu
  rw [zq_fN_e, zq_fc_e]
def zq_in (i : Int32) (n : Nat) : Bool := decide (¬ (i < 0 ∨ n ≤ i.toNatClampNeg))
theorem zq_br {c : Prop} {inst : Decidable c} {A B : Bool} {P Q : Prop} (h : (@ite Bool c inst A B) = true) (f : c → A = true → P) (g : ¬ c → B = true → Q) : (c → P) ∧ (¬ c → Q) :=
  ⟨fun hc => f hc (by rw [if_pos hc] at h; exact h), fun hc => g hc (by rw [if_neg hc] at h; exact h)⟩
theorem zq_vi {i : Int32} {n : Nat} {A : Bool} {P : Prop} (h : (zq_in i n && A) = true) (f : A = true → P) : vp_in i n ∧ P :=
  ⟨of_decide_eq_true (p := ¬ (i < 0 ∨ n ≤ i.toNatClampNeg)) (Bool.and_eq_true_iff.mp h).1, f (Bool.and_eq_true_iff.mp h).2⟩
theorem zq_go {e : Int32} {Q : Int32 → Bool} (h : zq_fc e Q = true) : Q e = true := (zq_fc_e e Q) ▸ h
theorem zq_gg {e : Int32} {Q : Int32 → Bool} {P : Prop} (h : zq_fc e Q = true) (f : Q e = true → P) : P := f (zq_go h)
theorem zq_nm {e : Int32} {Q : Int32 → Bool} {P : Int32 → Prop} (h : zq_fc e Q = true) (f : ∀ y, Q y = true → P y) : ∀ y, y = e → P y :=
  fun y ey => f y (by rw [ey]; exact zq_go h)
theorem zq_na {a : Nat → Int32} {i : Nat} {v : Int32} {Q : (Nat → Int32) → Bool} {P : (Nat → Int32) → Prop} (h : zq_fu a i v Q = true) (f : ∀ y, Q y = true → P y) : ∀ y, y = upd a i v → P y :=
  fun y ey => f y (by rw [ey]; exact (zq_fu_e a i v Q) ▸ h)
/-- how many of the eight low bits: a value, so that it is computed once for an argument -/
def zq_sz (x0 : Int32) : Int32 := (0 + ((x0 >>> ((0 : Int32) &&& 31)) &&& 1)) + ((x0 >>> ((1 : Int32) &&& 31)) &&& 1) + ((x0 >>> ((2 : Int32) &&& 31)) &&& 1) + ((x0 >>> ((3 : Int32) &&& 31)) &&& 1) + ((x0 >>> ((4 : Int32) &&& 31)) &&& 1) + ((x0 >>> ((5 : Int32) &&& 31)) &&& 1) + ((x0 >>> ((6 : Int32) &&& 31)) &&& 1) + ((x0 >>> ((7 : Int32) &&& 31)) &&& 1)
def zp_sizeOf (bpost : Int32 → Bool) (u : St0) (p0 : Int32) : Bool := zq_fc (zq_sz p0) bpost
theorem zt_sizeOf {bpost : Int32 → Bool} {post : Int32 → Prop} {u : St0} {p0 : Int32} (h : zp_sizeOf bpost u p0 = true) (hpost : ∀ y0, bpost y0 = true → post y0) : wpX_sizeOf post u p0 := by
  have h2 : post (zq_sz p0) := hpost _ (zq_go h)
  refine Exists.intro 9 ?_
  refine br_f (by decide) (nm_e (nm_r (e' := 1) rfl ?_))
  refine br_f (by decide) (nm_e (nm_r (e' := 2) rfl ?_))
  refine br_f (by decide) (nm_e (nm_r (e' := 3) rfl ?_))
  refine br_f (by decide) (nm_e (nm_r (e' := 4) rfl ?_))
  refine br_f (by decide) (nm_e (nm_r (e' := 5) rfl ?_))
  refine br_f (by decide) (nm_e (nm_r (e' := 6) rfl ?_))
  refine br_f (by decide) (nm_e (nm_r (e' := 7) rfl ?_))
  refine br_f (by decide) (nm_e (nm_r (e' := 8) rfl ?_))
  exact br_t (by decide) h2
end
section
def zp_isClass (bpost : Int32 → Bool) (u : St2) (p0 : Int32) : Bool := match u with
  | (f0_count, f0_built, f0_lineLength, f0_colourCount, a1, a2, a3, a4, a5, a6, a7, a8, a9, a10, a11, a12, a13, a14) => (if p0 < 0 then bpost 0 else (if f0_count ≤ p0 then bpost 0 else bpost 1))
theorem zt_isClass {bpost : Int32 → Bool} {post : Int32 → Prop} {u : St2} {p0 : Int32} (h : zp_isClass bpost u p0 = true) (hpost : ∀ y0, bpost y0 = true → post y0) : wpX_isClass post u p0 := by
  obtain ⟨f0_count, f0_built, f0_lineLength, f0_colourCount, a1, a2, a3, a4, a5, a6, a7, a8, a9, a10, a11, a12, a13, a14⟩ := u
  exact zq_br h (fun _ h => hpost _ h) (fun _ h => zq_br h (fun _ h => hpost _ h) (fun _ h => hpost _ h))
def zp_isSelector (bpost : Int32 → Bool) (u : St0) (p0 : Int32) : Bool := (if p0 < 0 then bpost 0 else (if 8 ≤ p0 then bpost 0 else bpost 1))
theorem zt_isSelector {bpost : Int32 → Bool} {post : Int32 → Prop} {u : St0} {p0 : Int32} (h : zp_isSelector bpost u p0 = true) (hpost : ∀ y0, bpost y0 = true → post y0) : wpX_isSelector post u p0 := by
  exact zq_br h (fun _ h => hpost _ h) (fun _ h => zq_br h (fun _ h => hpost _ h) (fun _ h => hpost _ h))
def zb_sortDown_71 (bpost : St2 → Bool) (bJ6 : Int32 → Int32 → Int32 → (Nat → Int32) → (Nat → Int32) → (Nat → Int32) → (Nat → Int32) → (Nat → Int32) → (Nat → Int32) → (Nat → Int32) → (Nat → Int32) → (Nat → Int32) → (Nat → Int32) → (Nat → Int32) → (Nat → Int32) → (Nat → Int32) → (Nat → Int32) → Bool) (bJ17 : Int32 → Int32 → Int32 → (Nat → Int32) → (Nat → Int32) → (Nat → Int32) → (Nat → Int32) → (Nat → Int32) → (Nat → Int32) → (Nat → Int32) → (Nat → Int32) → (Nat → Int32) → (Nat → Int32) → (Nat → Int32) → (Nat → Int32) → (Nat → Int32) → (Nat → Int32) → Bool) (x1 : Int32) (x2 : Int32) (x3 : Int32) (x4 : Int32) (x5 : Int32) (z0 : Int32) (f0_count : Int32) (f0_built : Int32) (f0_lineLength : Int32) (f0_colourCount : Int32) (a1 : Nat → Int32) (a2 : Nat → Int32) (a3 : Nat → Int32) (a4 : Nat → Int32) (a5 : Nat → Int32) (a6 : Nat → Int32) (a7 : Nat → Int32) (a8 : Nat → Int32) (a9 : Nat → Int32) (a10 : Nat → Int32) (a11 : Nat → Int32) (a12 : Nat → Int32) (a13 : Nat → Int32) (a14 : Nat → Int32) : Bool := (if x5 = 0 then zq_fc (x4 + 1) (fun x4_8 => bJ17 x1 x2 x4_8 a1 a2 a3 a4 a5 a6 a7 a8 a9 a10 a11 a12 a13 a14) else (if z0 = 0 then zq_fc (x4 + 1) (fun x4_10 => bJ17 x1 x2 x4_10 a1 a2 a3 a4 a5 a6 a7 a8 a9 a10 a11 a12 a13 a14) else (zq_in x2 10 && zq_fu a14 x2.toNatClampNeg x4.toInt8.toInt32 (fun a14_12 => zq_fc (x2 + 1) (fun x2_13 => zq_fc (x1 ||| ((1 : Int32) <<< (x4 &&& 31))) (fun x1_14 => zq_fc (x4 + 1) (fun x4_15 => bJ17 x1_14 x2_13 x4_15 a1 a2 a3 a4 a5 a6 a7 a8 a9 a10 a11 a12 a13 a14_12)))))))
theorem zs_sortDown_71 {bpost : St2 → Bool} {post : St2 → Prop} {bJ6 : Int32 → Int32 → Int32 → (Nat → Int32) → (Nat → Int32) → (Nat → Int32) → (Nat → Int32) → (Nat → Int32) → (Nat → Int32) → (Nat → Int32) → (Nat → Int32) → (Nat → Int32) → (Nat → Int32) → (Nat → Int32) → (Nat → Int32) → (Nat → Int32) → (Nat → Int32) → Bool} {J6 : Int32 → Int32 → Int32 → (Nat → Int32) → (Nat → Int32) → (Nat → Int32) → (Nat → Int32) → (Nat → Int32) → (Nat → Int32) → (Nat → Int32) → (Nat → Int32) → (Nat → Int32) → (Nat → Int32) → (Nat → Int32) → (Nat → Int32) → (Nat → Int32) → (Nat → Int32) → Prop} {bJ17 : Int32 → Int32 → Int32 → (Nat → Int32) → (Nat → Int32) → (Nat → Int32) → (Nat → Int32) → (Nat → Int32) → (Nat → Int32) → (Nat → Int32) → (Nat → Int32) → (Nat → Int32) → (Nat → Int32) → (Nat → Int32) → (Nat → Int32) → (Nat → Int32) → (Nat → Int32) → Bool} {J17 : Int32 → Int32 → Int32 → (Nat → Int32) → (Nat → Int32) → (Nat → Int32) → (Nat → Int32) → (Nat → Int32) → (Nat → Int32) → (Nat → Int32) → (Nat → Int32) → (Nat → Int32) → (Nat → Int32) → (Nat → Int32) → (Nat → Int32) → (Nat → Int32) → (Nat → Int32) → Prop} {x1 : Int32} {x2 : Int32} {x3 : Int32} {x4 : Int32} {x5 : Int32} {z0 : Int32} {f0_count : Int32} {f0_built : Int32} {f0_lineLength : Int32} {f0_colourCount : Int32} {a1 : Nat → Int32} {a2 : Nat → Int32} {a3 : Nat → Int32} {a4 : Nat → Int32} {a5 : Nat → Int32} {a6 : Nat → Int32} {a7 : Nat → Int32} {a8 : Nat → Int32} {a9 : Nat → Int32} {a10 : Nat → Int32} {a11 : Nat → Int32} {a12 : Nat → Int32} {a13 : Nat → Int32} {a14 : Nat → Int32} (h : zb_sortDown_71 bpost bJ6 bJ17 x1 x2 x3 x4 x5 z0 f0_count f0_built f0_lineLength f0_colourCount a1 a2 a3 a4 a5 a6 a7 a8 a9 a10 a11 a12 a13 a14 = true) (hpost : ∀ y0, bpost y0 = true → post y0) (hJ6 : ∀ y0 y1 y2 y3 y4 y5 y6 y7 y8 y9 y10 y11 y12 y13 y14 y15 y16, bJ6 y0 y1 y2 y3 y4 y5 y6 y7 y8 y9 y10 y11 y12 y13 y14 y15 y16 = true → J6 y0 y1 y2 y3 y4 y5 y6 y7 y8 y9 y10 y11 y12 y13 y14 y15 y16) (hJ17 : ∀ y0 y1 y2 y3 y4 y5 y6 y7 y8 y9 y10 y11 y12 y13 y14 y15 y16, bJ17 y0 y1 y2 y3 y4 y5 y6 y7 y8 y9 y10 y11 y12 y13 y14 y15 y16 = true → J17 y0 y1 y2 y3 y4 y5 y6 y7 y8 y9 y10 y11 y12 y13 y14 y15 y16) : wX_sortDown_71 post J6 J17 x1 x2 x3 x4 x5 z0 f0_count f0_built f0_lineLength f0_colourCount a1 a2 a3 a4 a5 a6 a7 a8 a9 a10 a11 a12 a13 a14 := by
  exact zq_br h (fun _ h => zq_nm h (fun x4_8 h => hJ17 _ _ _ _ _ _ _ _ _ _ _ _ _ _ _ _ _ h)) (fun _ h => zq_br h (fun _ h => zq_nm h (fun x4_10 h => hJ17 _ _ _ _ _ _ _ _ _ _ _ _ _ _ _ _ _ h)) (fun _ h => zq_vi h (fun h => zq_na h (fun a14_12 h => zq_nm h (fun x2_13 h => zq_nm h (fun x1_14 h => zq_nm h (fun x4_15 h => hJ17 _ _ _ _ _ _ _ _ _ _ _ _ _ _ _ _ _ h)))))))
def zb_sortDown_66 (bpost : St2 → Bool) (bJ6 : Int32 → Int32 → Int32 → (Nat → Int32) → (Nat → Int32) → (Nat → Int32) → (Nat → Int32) → (Nat → Int32) → (Nat → Int32) → (Nat → Int32) → (Nat → Int32) → (Nat → Int32) → (Nat → Int32) → (Nat → Int32) → (Nat → Int32) → (Nat → Int32) → (Nat → Int32) → Bool) (bJ17 : Int32 → Int32 → Int32 → (Nat → Int32) → (Nat → Int32) → (Nat → Int32) → (Nat → Int32) → (Nat → Int32) → (Nat → Int32) → (Nat → Int32) → (Nat → Int32) → (Nat → Int32) → (Nat → Int32) → (Nat → Int32) → (Nat → Int32) → (Nat → Int32) → (Nat → Int32) → Bool) (x1 : Int32) (x2 : Int32) (x3 : Int32) (x4 : Int32) (x5 : Int32) (f0_count : Int32) (f0_built : Int32) (f0_lineLength : Int32) (f0_colourCount : Int32) (a1 : Nat → Int32) (a2 : Nat → Int32) (a3 : Nat → Int32) (a4 : Nat → Int32) (a5 : Nat → Int32) (a6 : Nat → Int32) (a7 : Nat → Int32) (a8 : Nat → Int32) (a9 : Nat → Int32) (a10 : Nat → Int32) (a11 : Nat → Int32) (a12 : Nat → Int32) (a13 : Nat → Int32) (a14 : Nat → Int32) : Bool := zb_sortDown_71 bpost bJ6 bJ17 x1 x2 x3 x4 x5 1 f0_count f0_built f0_lineLength f0_colourCount a1 a2 a3 a4 a5 a6 a7 a8 a9 a10 a11 a12 a13 a14
theorem zs_sortDown_66 {bpost : St2 → Bool} {post : St2 → Prop} {bJ6 : Int32 → Int32 → Int32 → (Nat → Int32) → (Nat → Int32) → (Nat → Int32) → (Nat → Int32) → (Nat → Int32) → (Nat → Int32) → (Nat → Int32) → (Nat → Int32) → (Nat → Int32) → (Nat → Int32) → (Nat → Int32) → (Nat → Int32) → (Nat → Int32) → (Nat → Int32) → Bool} {J6 : Int32 → Int32 → Int32 → (Nat → Int32) → (Nat → Int32) → (Nat → Int32) → (Nat → Int32) → (Nat → Int32) → (Nat → Int32) → (Nat → Int32) → (Nat → Int32) → (Nat → Int32) → (Nat → Int32) → (Nat → Int32) → (Nat → Int32) → (Nat → Int32) → (Nat → Int32) → Prop} {bJ17 : Int32 → Int32 → Int32 → (Nat → Int32) → (Nat → Int32) → (Nat → Int32) → (Nat → Int32) → (Nat → Int32) → (Nat → Int32) → (Nat → Int32) → (Nat → Int32) → (Nat → Int32) → (Nat → Int32) → (Nat → Int32) → (Nat → Int32) → (Nat → Int32) → (Nat → Int32) → Bool} {J17 : Int32 → Int32 → Int32 → (Nat → Int32) → (Nat → Int32) → (Nat → Int32) → (Nat → Int32) → (Nat → Int32) → (Nat → Int32) → (Nat → Int32) → (Nat → Int32) → (Nat → Int32) → (Nat → Int32) → (Nat → Int32) → (Nat → Int32) → (Nat → Int32) → (Nat → Int32) → Prop} {x1 : Int32} {x2 : Int32} {x3 : Int32} {x4 : Int32} {x5 : Int32} {f0_count : Int32} {f0_built : Int32} {f0_lineLength : Int32} {f0_colourCount : Int32} {a1 : Nat → Int32} {a2 : Nat → Int32} {a3 : Nat → Int32} {a4 : Nat → Int32} {a5 : Nat → Int32} {a6 : Nat → Int32} {a7 : Nat → Int32} {a8 : Nat → Int32} {a9 : Nat → Int32} {a10 : Nat → Int32} {a11 : Nat → Int32} {a12 : Nat → Int32} {a13 : Nat → Int32} {a14 : Nat → Int32} (h : zb_sortDown_66 bpost bJ6 bJ17 x1 x2 x3 x4 x5 f0_count f0_built f0_lineLength f0_colourCount a1 a2 a3 a4 a5 a6 a7 a8 a9 a10 a11 a12 a13 a14 = true) (hpost : ∀ y0, bpost y0 = true → post y0) (hJ6 : ∀ y0 y1 y2 y3 y4 y5 y6 y7 y8 y9 y10 y11 y12 y13 y14 y15 y16, bJ6 y0 y1 y2 y3 y4 y5 y6 y7 y8 y9 y10 y11 y12 y13 y14 y15 y16 = true → J6 y0 y1 y2 y3 y4 y5 y6 y7 y8 y9 y10 y11 y12 y13 y14 y15 y16) (hJ17 : ∀ y0 y1 y2 y3 y4 y5 y6 y7 y8 y9 y10 y11 y12 y13 y14 y15 y16, bJ17 y0 y1 y2 y3 y4 y5 y6 y7 y8 y9 y10 y11 y12 y13 y14 y15 y16 = true → J17 y0 y1 y2 y3 y4 y5 y6 y7 y8 y9 y10 y11 y12 y13 y14 y15 y16) : wX_sortDown_66 post J6 J17 x1 x2 x3 x4 x5 f0_count f0_built f0_lineLength f0_colourCount a1 a2 a3 a4 a5 a6 a7 a8 a9 a10 a11 a12 a13 a14 := by
  exact zs_sortDown_71 h hpost hJ6 hJ17
def zb_sortDown_40 (bpost : St2 → Bool) (bJ6 : Int32 → Int32 → Int32 → (Nat → Int32) → (Nat → Int32) → (Nat → Int32) → (Nat → Int32) → (Nat → Int32) → (Nat → Int32) → (Nat → Int32) → (Nat → Int32) → (Nat → Int32) → (Nat → Int32) → (Nat → Int32) → (Nat → Int32) → (Nat → Int32) → (Nat → Int32) → Bool) (bJ17 : Int32 → Int32 → Int32 → (Nat → Int32) → (Nat → Int32) → (Nat → Int32) → (Nat → Int32) → (Nat → Int32) → (Nat → Int32) → (Nat → Int32) → (Nat → Int32) → (Nat → Int32) → (Nat → Int32) → (Nat → Int32) → (Nat → Int32) → (Nat → Int32) → (Nat → Int32) → Bool) (x1 : Int32) (x2 : Int32) (x3 : Int32) (x4 : Int32) (z0 : Int32) (f0_count : Int32) (f0_built : Int32) (f0_lineLength : Int32) (f0_colourCount : Int32) (a1 : Nat → Int32) (a2 : Nat → Int32) (a3 : Nat → Int32) (a4 : Nat → Int32) (a5 : Nat → Int32) (a6 : Nat → Int32) (a7 : Nat → Int32) (a8 : Nat → Int32) (a9 : Nat → Int32) (a10 : Nat → Int32) (a11 : Nat → Int32) (a12 : Nat → Int32) (a13 : Nat → Int32) (a14 : Nat → Int32) : Bool := (zq_in x4 10 && (if (a1 x4.toNatClampNeg) < 0 then zb_sortDown_66 bpost bJ6 bJ17 x1 x2 x3 x4 z0 f0_count f0_built f0_lineLength f0_colourCount a1 a2 a3 a4 a5 a6 a7 a8 a9 a10 a11 a12 a13 a14 else (zq_in x4 10 && (if ((x1 >>> ((a1 x4.toNatClampNeg) &&& 31)) &&& 1) = 0 then zb_sortDown_71 bpost bJ6 bJ17 x1 x2 x3 x4 z0 0 f0_count f0_built f0_lineLength f0_colourCount a1 a2 a3 a4 a5 a6 a7 a8 a9 a10 a11 a12 a13 a14 else zb_sortDown_66 bpost bJ6 bJ17 x1 x2 x3 x4 z0 f0_count f0_built f0_lineLength f0_colourCount a1 a2 a3 a4 a5 a6 a7 a8 a9 a10 a11 a12 a13 a14))))
theorem zs_sortDown_40 {bpost : St2 → Bool} {post : St2 → Prop} {bJ6 : Int32 → Int32 → Int32 → (Nat → Int32) → (Nat → Int32) → (Nat → Int32) → (Nat → Int32) → (Nat → Int32) → (Nat → Int32) → (Nat → Int32) → (Nat → Int32) → (Nat → Int32) → (Nat → Int32) → (Nat → Int32) → (Nat → Int32) → (Nat → Int32) → (Nat → Int32) → Bool} {J6 : Int32 → Int32 → Int32 → (Nat → Int32) → (Nat → Int32) → (Nat → Int32) → (Nat → Int32) → (Nat → Int32) → (Nat → Int32) → (Nat → Int32) → (Nat → Int32) → (Nat → Int32) → (Nat → Int32) → (Nat → Int32) → (Nat → Int32) → (Nat → Int32) → (Nat → Int32) → Prop} {bJ17 : Int32 → Int32 → Int32 → (Nat → Int32) → (Nat → Int32) → (Nat → Int32) → (Nat → Int32) → (Nat → Int32) → (Nat → Int32) → (Nat → Int32) → (Nat → Int32) → (Nat → Int32) → (Nat → Int32) → (Nat → Int32) → (Nat → Int32) → (Nat → Int32) → (Nat → Int32) → Bool} {J17 : Int32 → Int32 → Int32 → (Nat → Int32) → (Nat → Int32) → (Nat → Int32) → (Nat → Int32) → (Nat → Int32) → (Nat → Int32) → (Nat → Int32) → (Nat → Int32) → (Nat → Int32) → (Nat → Int32) → (Nat → Int32) → (Nat → Int32) → (Nat → Int32) → (Nat → Int32) → Prop} {x1 : Int32} {x2 : Int32} {x3 : Int32} {x4 : Int32} {z0 : Int32} {f0_count : Int32} {f0_built : Int32} {f0_lineLength : Int32} {f0_colourCount : Int32} {a1 : Nat → Int32} {a2 : Nat → Int32} {a3 : Nat → Int32} {a4 : Nat → Int32} {a5 : Nat → Int32} {a6 : Nat → Int32} {a7 : Nat → Int32} {a8 : Nat → Int32} {a9 : Nat → Int32} {a10 : Nat → Int32} {a11 : Nat → Int32} {a12 : Nat → Int32} {a13 : Nat → Int32} {a14 : Nat → Int32} (h : zb_sortDown_40 bpost bJ6 bJ17 x1 x2 x3 x4 z0 f0_count f0_built f0_lineLength f0_colourCount a1 a2 a3 a4 a5 a6 a7 a8 a9 a10 a11 a12 a13 a14 = true) (hpost : ∀ y0, bpost y0 = true → post y0) (hJ6 : ∀ y0 y1 y2 y3 y4 y5 y6 y7 y8 y9 y10 y11 y12 y13 y14 y15 y16, bJ6 y0 y1 y2 y3 y4 y5 y6 y7 y8 y9 y10 y11 y12 y13 y14 y15 y16 = true → J6 y0 y1 y2 y3 y4 y5 y6 y7 y8 y9 y10 y11 y12 y13 y14 y15 y16) (hJ17 : ∀ y0 y1 y2 y3 y4 y5 y6 y7 y8 y9 y10 y11 y12 y13 y14 y15 y16, bJ17 y0 y1 y2 y3 y4 y5 y6 y7 y8 y9 y10 y11 y12 y13 y14 y15 y16 = true → J17 y0 y1 y2 y3 y4 y5 y6 y7 y8 y9 y10 y11 y12 y13 y14 y15 y16) : wX_sortDown_40 post J6 J17 x1 x2 x3 x4 z0 f0_count f0_built f0_lineLength f0_colourCount a1 a2 a3 a4 a5 a6 a7 a8 a9 a10 a11 a12 a13 a14 := by
  exact zq_vi h (fun h => zq_br h (fun _ h => zs_sortDown_66 h hpost hJ6 hJ17) (fun _ h => zq_vi h (fun h => zq_br h (fun _ h => zs_sortDown_71 h hpost hJ6 hJ17) (fun _ h => zs_sortDown_66 h hpost hJ6 hJ17))))
def zb_sortDown_17 (bpost : St2 → Bool) (bJ6 : Int32 → Int32 → Int32 → (Nat → Int32) → (Nat → Int32) → (Nat → Int32) → (Nat → Int32) → (Nat → Int32) → (Nat → Int32) → (Nat → Int32) → (Nat → Int32) → (Nat → Int32) → (Nat → Int32) → (Nat → Int32) → (Nat → Int32) → (Nat → Int32) → (Nat → Int32) → Bool) (x3 : Int32) (f0_count : Int32) (f0_built : Int32) (f0_lineLength : Int32) (f0_colourCount : Int32) : Nat → Int32 → Int32 → Int32 → (Nat → Int32) → (Nat → Int32) → (Nat → Int32) → (Nat → Int32) → (Nat → Int32) → (Nat → Int32) → (Nat → Int32) → (Nat → Int32) → (Nat → Int32) → (Nat → Int32) → (Nat → Int32) → (Nat → Int32) → (Nat → Int32) → (Nat → Int32) → Bool
  | 0 => fun _ _ _ _ _ _ _ _ _ _ _ _ _ _ _ _ _ => false
  | n + 1 => fun x1 x2 x4 a1 a2 a3 a4 a5 a6 a7 a8 a9 a10 a11 a12 a13 a14 => (if f0_count ≤ x4 then zq_fc (x3 + 1) (fun x3_3 => bJ6 x1 x2 x3_3 a1 a2 a3 a4 a5 a6 a7 a8 a9 a10 a11 a12 a13 a14) else (if ((x1 >>> (x4 &&& 31)) &&& 1) = 0 then zb_sortDown_40 bpost bJ6 (zb_sortDown_17 bpost bJ6 x3 f0_count f0_built f0_lineLength f0_colourCount n) x1 x2 x3 x4 1 f0_count f0_built f0_lineLength f0_colourCount a1 a2 a3 a4 a5 a6 a7 a8 a9 a10 a11 a12 a13 a14 else zb_sortDown_40 bpost bJ6 (zb_sortDown_17 bpost bJ6 x3 f0_count f0_built f0_lineLength f0_colourCount n) x1 x2 x3 x4 0 f0_count f0_built f0_lineLength f0_colourCount a1 a2 a3 a4 a5 a6 a7 a8 a9 a10 a11 a12 a13 a14))
theorem zs_sortDown_17 {bpost : St2 → Bool} {post : St2 → Prop} {bJ6 : Int32 → Int32 → Int32 → (Nat → Int32) → (Nat → Int32) → (Nat → Int32) → (Nat → Int32) → (Nat → Int32) → (Nat → Int32) → (Nat → Int32) → (Nat → Int32) → (Nat → Int32) → (Nat → Int32) → (Nat → Int32) → (Nat → Int32) → (Nat → Int32) → (Nat → Int32) → Bool} {J6 : Int32 → Int32 → Int32 → (Nat → Int32) → (Nat → Int32) → (Nat → Int32) → (Nat → Int32) → (Nat → Int32) → (Nat → Int32) → (Nat → Int32) → (Nat → Int32) → (Nat → Int32) → (Nat → Int32) → (Nat → Int32) → (Nat → Int32) → (Nat → Int32) → (Nat → Int32) → Prop} {x3 : Int32} {f0_count : Int32} {f0_built : Int32} {f0_lineLength : Int32} {f0_colourCount : Int32} : ∀ (n : Nat) {x1 : Int32} {x2 : Int32} {x4 : Int32} {a1 : (Nat → Int32)} {a2 : (Nat → Int32)} {a3 : (Nat → Int32)} {a4 : (Nat → Int32)} {a5 : (Nat → Int32)} {a6 : (Nat → Int32)} {a7 : (Nat → Int32)} {a8 : (Nat → Int32)} {a9 : (Nat → Int32)} {a10 : (Nat → Int32)} {a11 : (Nat → Int32)} {a12 : (Nat → Int32)} {a13 : (Nat → Int32)} {a14 : (Nat → Int32)} (h : zb_sortDown_17 bpost bJ6 x3 f0_count f0_built f0_lineLength f0_colourCount n x1 x2 x4 a1 a2 a3 a4 a5 a6 a7 a8 a9 a10 a11 a12 a13 a14 = true) (hpost : ∀ y0, bpost y0 = true → post y0) (hJ6 : ∀ y0 y1 y2 y3 y4 y5 y6 y7 y8 y9 y10 y11 y12 y13 y14 y15 y16, bJ6 y0 y1 y2 y3 y4 y5 y6 y7 y8 y9 y10 y11 y12 y13 y14 y15 y16 = true → J6 y0 y1 y2 y3 y4 y5 y6 y7 y8 y9 y10 y11 y12 y13 y14 y15 y16), wX_sortDown_17 post J6 x3 f0_count f0_built f0_lineLength f0_colourCount n x1 x2 x4 a1 a2 a3 a4 a5 a6 a7 a8 a9 a10 a11 a12 a13 a14 := by
  intro n
  induction n with
  | zero => intro x1 x2 x4 a1 a2 a3 a4 a5 a6 a7 a8 a9 a10 a11 a12 a13 a14 h hpost hJ6; exact (Bool.false_ne_true h).elim
  | succ n ih =>
    intro x1 x2 x4 a1 a2 a3 a4 a5 a6 a7 a8 a9 a10 a11 a12 a13 a14 h hpost hJ6
    exact zq_br h (fun _ h => zq_nm h (fun x3_3 h => hJ6 _ _ _ _ _ _ _ _ _ _ _ _ _ _ _ _ _ h)) (fun _ h => zq_br h (fun _ h => zs_sortDown_40 h hpost hJ6 (fun _ _ _ _ _ _ _ _ _ _ _ _ _ _ _ _ _ h => ih h hpost hJ6)) (fun _ h => zs_sortDown_40 h hpost hJ6 (fun _ _ _ _ _ _ _ _ _ _ _ _ _ _ _ _ _ h => ih h hpost hJ6)))
def zb_sortDown_6 (bpost : St2 → Bool) (f0_count : Int32) (f0_built : Int32) (f0_lineLength : Int32) (f0_colourCount : Int32) : Nat → Int32 → Int32 → Int32 → (Nat → Int32) → (Nat → Int32) → (Nat → Int32) → (Nat → Int32) → (Nat → Int32) → (Nat → Int32) → (Nat → Int32) → (Nat → Int32) → (Nat → Int32) → (Nat → Int32) → (Nat → Int32) → (Nat → Int32) → (Nat → Int32) → (Nat → Int32) → Bool
  | 0 => fun _ _ _ _ _ _ _ _ _ _ _ _ _ _ _ _ _ => false
  | n + 1 => fun x1 x2 x3 a1 a2 a3 a4 a5 a6 a7 a8 a9 a10 a11 a12 a13 a14 => (if f0_count ≤ x3 then bpost (f0_count, f0_built, f0_lineLength, f0_colourCount, a1, a2, a3, a4, a5, a6, a7, a8, a9, a10, a11, a12, a13, a14) else zb_sortDown_17 bpost (zb_sortDown_6 bpost f0_count f0_built f0_lineLength f0_colourCount n) x3 f0_count f0_built f0_lineLength f0_colourCount 12 x1 x2 0 a1 a2 a3 a4 a5 a6 a7 a8 a9 a10 a11 a12 a13 a14)
theorem zs_sortDown_6 {bpost : St2 → Bool} {post : St2 → Prop} {f0_count : Int32} {f0_built : Int32} {f0_lineLength : Int32} {f0_colourCount : Int32} : ∀ (n : Nat) {x1 : Int32} {x2 : Int32} {x3 : Int32} {a1 : (Nat → Int32)} {a2 : (Nat → Int32)} {a3 : (Nat → Int32)} {a4 : (Nat → Int32)} {a5 : (Nat → Int32)} {a6 : (Nat → Int32)} {a7 : (Nat → Int32)} {a8 : (Nat → Int32)} {a9 : (Nat → Int32)} {a10 : (Nat → Int32)} {a11 : (Nat → Int32)} {a12 : (Nat → Int32)} {a13 : (Nat → Int32)} {a14 : (Nat → Int32)} (h : zb_sortDown_6 bpost f0_count f0_built f0_lineLength f0_colourCount n x1 x2 x3 a1 a2 a3 a4 a5 a6 a7 a8 a9 a10 a11 a12 a13 a14 = true) (hpost : ∀ y0, bpost y0 = true → post y0), wX_sortDown_6 post f0_count f0_built f0_lineLength f0_colourCount n x1 x2 x3 a1 a2 a3 a4 a5 a6 a7 a8 a9 a10 a11 a12 a13 a14 := by
  intro n
  induction n with
  | zero => intro x1 x2 x3 a1 a2 a3 a4 a5 a6 a7 a8 a9 a10 a11 a12 a13 a14 h hpost; exact (Bool.false_ne_true h).elim
  | succ n ih =>
    intro x1 x2 x3 a1 a2 a3 a4 a5 a6 a7 a8 a9 a10 a11 a12 a13 a14 h hpost
    exact zq_br h (fun _ h => hpost _ h) (fun _ h => Exists.intro 12 (zs_sortDown_17 12 h hpost (fun _ _ _ _ _ _ _ _ _ _ _ _ _ _ _ _ _ h => ih h hpost)))
def zp_sortDown (bpost : St2 → Bool) (u : St2) : Bool := match u with
  | (f0_count, f0_built, f0_lineLength, f0_colourCount, a1, a2, a3, a4, a5, a6, a7, a8, a9, a10, a11, a12, a13, a14) => zb_sortDown_6 bpost f0_count f0_built f0_lineLength f0_colourCount 12 0 0 0 a1 a2 a3 a4 a5 a6 a7 a8 a9 a10 a11 a12 a13 a14
theorem zt_sortDown {bpost : St2 → Bool} {post : St2 → Prop} {u : St2} (h : zp_sortDown bpost u = true) (hpost : ∀ y0, bpost y0 = true → post y0) : wpX_sortDown post u := by
  obtain ⟨f0_count, f0_built, f0_lineLength, f0_colourCount, a1, a2, a3, a4, a5, a6, a7, a8, a9, a10, a11, a12, a13, a14⟩ := u
  exact Exists.intro 12 (zs_sortDown_6 12 h hpost)
def zb_own_4 (bpost : Int32 → Bool) (x1 : Int32) (f0_count : Int32) (f0_built : Int32) (f0_lineLength : Int32) (f0_colourCount : Int32) (a1 : Nat → Int32) (a2 : Nat → Int32) (a3 : Nat → Int32) (a4 : Nat → Int32) (a5 : Nat → Int32) (a6 : Nat → Int32) (a7 : Nat → Int32) (a8 : Nat → Int32) (a9 : Nat → Int32) (a10 : Nat → Int32) (a11 : Nat → Int32) (a12 : Nat → Int32) (a13 : Nat → Int32) (a14 : Nat → Int32) : Nat → Int32 → Int32 → Bool
  | 0 => fun _ _ => false
  | n + 1 => fun x2 x3 => (if 8 ≤ x3 then bpost x2 else (zq_in ((x1 * 8) + x3) 80 && (if (a2 ((x1 * 8) + x3).toNatClampNeg) = 0 then zq_fc (x3 + 1) (fun x3_4 => zb_own_4 bpost x1 f0_count f0_built f0_lineLength f0_colourCount a1 a2 a3 a4 a5 a6 a7 a8 a9 a10 a11 a12 a13 a14 n x2 x3_4) else zq_fc (x2 ||| ((1 : Int32) <<< (x3 &&& 31))) (fun x2_5 => zq_fc (x3 + 1) (fun x3_6 => zb_own_4 bpost x1 f0_count f0_built f0_lineLength f0_colourCount a1 a2 a3 a4 a5 a6 a7 a8 a9 a10 a11 a12 a13 a14 n x2_5 x3_6)))))
theorem zs_own_4 {bpost : Int32 → Bool} {post : Int32 → Prop} {x1 : Int32} {f0_count : Int32} {f0_built : Int32} {f0_lineLength : Int32} {f0_colourCount : Int32} {a1 : Nat → Int32} {a2 : Nat → Int32} {a3 : Nat → Int32} {a4 : Nat → Int32} {a5 : Nat → Int32} {a6 : Nat → Int32} {a7 : Nat → Int32} {a8 : Nat → Int32} {a9 : Nat → Int32} {a10 : Nat → Int32} {a11 : Nat → Int32} {a12 : Nat → Int32} {a13 : Nat → Int32} {a14 : Nat → Int32} : ∀ (n : Nat) {x2 : Int32} {x3 : Int32} (h : zb_own_4 bpost x1 f0_count f0_built f0_lineLength f0_colourCount a1 a2 a3 a4 a5 a6 a7 a8 a9 a10 a11 a12 a13 a14 n x2 x3 = true) (hpost : ∀ y0, bpost y0 = true → post y0), wX_own_4 post x1 f0_count f0_built f0_lineLength f0_colourCount a1 a2 a3 a4 a5 a6 a7 a8 a9 a10 a11 a12 a13 a14 n x2 x3 := by
  intro n
  induction n with
  | zero => intro x2 x3 h hpost; exact (Bool.false_ne_true h).elim
  | succ n ih =>
    intro x2 x3 h hpost
    exact zq_br h (fun _ h => hpost _ h) (fun _ h => zq_vi h (fun h => zq_br h (fun _ h => zq_nm h (fun x3_4 h => ih h hpost)) (fun _ h => zq_nm h (fun x2_5 h => zq_nm h (fun x3_6 h => ih h hpost)))))
def zp_own (bpost : Int32 → Bool) (u : St2) (p0 : Int32) : Bool := match u with
  | (f0_count, f0_built, f0_lineLength, f0_colourCount, a1, a2, a3, a4, a5, a6, a7, a8, a9, a10, a11, a12, a13, a14) => zb_own_4 bpost p0 f0_count f0_built f0_lineLength f0_colourCount a1 a2 a3 a4 a5 a6 a7 a8 a9 a10 a11 a12 a13 a14 12 0 0
theorem zt_own {bpost : Int32 → Bool} {post : Int32 → Prop} {u : St2} {p0 : Int32} (h : zp_own bpost u p0 = true) (hpost : ∀ y0, bpost y0 = true → post y0) : wpX_own post u p0 := by
  obtain ⟨f0_count, f0_built, f0_lineLength, f0_colourCount, a1, a2, a3, a4, a5, a6, a7, a8, a9, a10, a11, a12, a13, a14⟩ := u
  exact Exists.intro 12 (zs_own_4 12 h hpost)
def zb_learn_41 (bpost : St2 → Bool) (bJ2 : Int32 → (Nat → Int32) → (Nat → Int32) → (Nat → Int32) → (Nat → Int32) → (Nat → Int32) → (Nat → Int32) → (Nat → Int32) → (Nat → Int32) → (Nat → Int32) → (Nat → Int32) → (Nat → Int32) → (Nat → Int32) → (Nat → Int32) → (Nat → Int32) → Bool) (x1 : Int32) (x2 : Int32) (z0 : Int32) (f0_count : Int32) (f0_built : Int32) (f0_lineLength : Int32) (f0_colourCount : Int32) (a1 : Nat → Int32) (a2 : Nat → Int32) (a3 : Nat → Int32) (a4 : Nat → Int32) (a5 : Nat → Int32) (a6 : Nat → Int32) (a7 : Nat → Int32) (a8 : Nat → Int32) (a9 : Nat → Int32) (a10 : Nat → Int32) (a11 : Nat → Int32) (a12 : Nat → Int32) (a13 : Nat → Int32) (a14 : Nat → Int32) : Bool := zp_own (fun r_8 => (zq_in x2 10 && zq_fu a3 x2.toNatClampNeg ((z0 ||| r_8).toInt16.toInt32) (fun a3_10 => zq_fc (x1 + 1) (fun x1_11 => bJ2 x1_11 a1 a2 a3_10 a4 a5 a6 a7 a8 a9 a10 a11 a12 a13 a14)))) (f0_count, f0_built, f0_lineLength, f0_colourCount, a1, a2, a3, a4, a5, a6, a7, a8, a9, a10, a11, a12, a13, a14) x2
theorem zs_learn_41 {bpost : St2 → Bool} {post : St2 → Prop} {bJ2 : Int32 → (Nat → Int32) → (Nat → Int32) → (Nat → Int32) → (Nat → Int32) → (Nat → Int32) → (Nat → Int32) → (Nat → Int32) → (Nat → Int32) → (Nat → Int32) → (Nat → Int32) → (Nat → Int32) → (Nat → Int32) → (Nat → Int32) → (Nat → Int32) → Bool} {J2 : Int32 → (Nat → Int32) → (Nat → Int32) → (Nat → Int32) → (Nat → Int32) → (Nat → Int32) → (Nat → Int32) → (Nat → Int32) → (Nat → Int32) → (Nat → Int32) → (Nat → Int32) → (Nat → Int32) → (Nat → Int32) → (Nat → Int32) → (Nat → Int32) → Prop} {x1 : Int32} {x2 : Int32} {z0 : Int32} {f0_count : Int32} {f0_built : Int32} {f0_lineLength : Int32} {f0_colourCount : Int32} {a1 : Nat → Int32} {a2 : Nat → Int32} {a3 : Nat → Int32} {a4 : Nat → Int32} {a5 : Nat → Int32} {a6 : Nat → Int32} {a7 : Nat → Int32} {a8 : Nat → Int32} {a9 : Nat → Int32} {a10 : Nat → Int32} {a11 : Nat → Int32} {a12 : Nat → Int32} {a13 : Nat → Int32} {a14 : Nat → Int32} (h : zb_learn_41 bpost bJ2 x1 x2 z0 f0_count f0_built f0_lineLength f0_colourCount a1 a2 a3 a4 a5 a6 a7 a8 a9 a10 a11 a12 a13 a14 = true) (hpost : ∀ y0, bpost y0 = true → post y0) (hJ2 : ∀ y0 y1 y2 y3 y4 y5 y6 y7 y8 y9 y10 y11 y12 y13 y14, bJ2 y0 y1 y2 y3 y4 y5 y6 y7 y8 y9 y10 y11 y12 y13 y14 = true → J2 y0 y1 y2 y3 y4 y5 y6 y7 y8 y9 y10 y11 y12 y13 y14) : wX_learn_41 post J2 x1 x2 z0 f0_count f0_built f0_lineLength f0_colourCount a1 a2 a3 a4 a5 a6 a7 a8 a9 a10 a11 a12 a13 a14 := by
  exact zt_own h (fun r_8 h => zq_vi h (fun h => zq_na h (fun a3_10 h => zq_nm h (fun x1_11 h => hJ2 _ _ _ _ _ _ _ _ _ _ _ _ _ _ _ h))))
def zb_learn_2 (bpost : St2 → Bool) (f0_count : Int32) (f0_built : Int32) (f0_lineLength : Int32) (f0_colourCount : Int32) : Nat → Int32 → (Nat → Int32) → (Nat → Int32) → (Nat → Int32) → (Nat → Int32) → (Nat → Int32) → (Nat → Int32) → (Nat → Int32) → (Nat → Int32) → (Nat → Int32) → (Nat → Int32) → (Nat → Int32) → (Nat → Int32) → (Nat → Int32) → (Nat → Int32) → Bool
  | 0 => fun _ _ _ _ _ _ _ _ _ _ _ _ _ _ _ => false
  | n + 1 => fun x1 a1 a2 a3 a4 a5 a6 a7 a8 a9 a10 a11 a12 a13 a14 => (if f0_count ≤ x1 then bpost (f0_count, f0_built, f0_lineLength, f0_colourCount, a1, a2, a3, a4, a5, a6, a7, a8, a9, a10, a11, a12, a13, a14) else (zq_in x1 10 && zq_fc (a14 x1.toNatClampNeg) (fun x2_3 => (zq_in x2_3 10 && (if 0 ≤ (a1 x2_3.toNatClampNeg) then (zq_in x2_3 10 && (zq_in (a1 x2_3.toNatClampNeg) 10 && zq_fc (a3 (a1 x2_3.toNatClampNeg).toNatClampNeg) (fun v_1 => zb_learn_41 bpost (zb_learn_2 bpost f0_count f0_built f0_lineLength f0_colourCount n) x1 x2_3 v_1 f0_count f0_built f0_lineLength f0_colourCount a1 a2 a3 a4 a5 a6 a7 a8 a9 a10 a11 a12 a13 a14))) else zb_learn_41 bpost (zb_learn_2 bpost f0_count f0_built f0_lineLength f0_colourCount n) x1 x2_3 0 f0_count f0_built f0_lineLength f0_colourCount a1 a2 a3 a4 a5 a6 a7 a8 a9 a10 a11 a12 a13 a14)))))
theorem zs_learn_2 {bpost : St2 → Bool} {post : St2 → Prop} {f0_count : Int32} {f0_built : Int32} {f0_lineLength : Int32} {f0_colourCount : Int32} : ∀ (n : Nat) {x1 : Int32} {a1 : (Nat → Int32)} {a2 : (Nat → Int32)} {a3 : (Nat → Int32)} {a4 : (Nat → Int32)} {a5 : (Nat → Int32)} {a6 : (Nat → Int32)} {a7 : (Nat → Int32)} {a8 : (Nat → Int32)} {a9 : (Nat → Int32)} {a10 : (Nat → Int32)} {a11 : (Nat → Int32)} {a12 : (Nat → Int32)} {a13 : (Nat → Int32)} {a14 : (Nat → Int32)} (h : zb_learn_2 bpost f0_count f0_built f0_lineLength f0_colourCount n x1 a1 a2 a3 a4 a5 a6 a7 a8 a9 a10 a11 a12 a13 a14 = true) (hpost : ∀ y0, bpost y0 = true → post y0), wX_learn_2 post f0_count f0_built f0_lineLength f0_colourCount n x1 a1 a2 a3 a4 a5 a6 a7 a8 a9 a10 a11 a12 a13 a14 := by
  intro n
  induction n with
  | zero => intro x1 a1 a2 a3 a4 a5 a6 a7 a8 a9 a10 a11 a12 a13 a14 h hpost; exact (Bool.false_ne_true h).elim
  | succ n ih =>
    intro x1 a1 a2 a3 a4 a5 a6 a7 a8 a9 a10 a11 a12 a13 a14 h hpost
    exact zq_br h (fun _ h => hpost _ h) (fun _ h => zq_vi h (fun h => zq_nm h (fun x2_3 h => zq_vi h (fun h => zq_br h (fun _ h => zq_vi h (fun h => zq_vi h (fun h => zq_gg h (fun h => zs_learn_41 h hpost (fun _ _ _ _ _ _ _ _ _ _ _ _ _ _ _ h => ih h hpost))))) (fun _ h => zs_learn_41 h hpost (fun _ _ _ _ _ _ _ _ _ _ _ _ _ _ _ h => ih h hpost))))))
def zp_learn (bpost : St2 → Bool) (u : St2) : Bool := match u with
  | (f0_count, f0_built, f0_lineLength, f0_colourCount, a1, a2, a3, a4, a5, a6, a7, a8, a9, a10, a11, a12, a13, a14) => zb_learn_2 bpost f0_count f0_built f0_lineLength f0_colourCount 12 0 a1 a2 a3 a4 a5 a6 a7 a8 a9 a10 a11 a12 a13 a14
theorem zt_learn {bpost : St2 → Bool} {post : St2 → Prop} {u : St2} (h : zp_learn bpost u = true) (hpost : ∀ y0, bpost y0 = true → post y0) : wpX_learn post u := by
  obtain ⟨f0_count, f0_built, f0_lineLength, f0_colourCount, a1, a2, a3, a4, a5, a6, a7, a8, a9, a10, a11, a12, a13, a14⟩ := u
  exact Exists.intro 12 (zs_learn_2 12 h hpost)
def zb_meet_12 (bpost : St2 → Bool) (bJ2 : Int32 → (Nat → Int32) → (Nat → Int32) → (Nat → Int32) → (Nat → Int32) → (Nat → Int32) → (Nat → Int32) → (Nat → Int32) → (Nat → Int32) → (Nat → Int32) → (Nat → Int32) → (Nat → Int32) → (Nat → Int32) → (Nat → Int32) → (Nat → Int32) → Bool) (x1 : Int32) (f0_count : Int32) (f0_built : Int32) (f0_lineLength : Int32) (f0_colourCount : Int32) (a1 : Nat → Int32) (a2 : Nat → Int32) (a3 : Nat → Int32) (a4 : Nat → Int32) (a5 : Nat → Int32) (a6 : Nat → Int32) (a7 : Nat → Int32) (a8 : Nat → Int32) (a9 : Nat → Int32) (a10 : Nat → Int32) (a11 : Nat → Int32) (a12 : Nat → Int32) (a13 : Nat → Int32) (a14 : Nat → Int32) : Nat → Int32 → Int32 → Bool
  | 0 => fun _ _ => false
  | n + 1 => fun x2 x3 => (if f0_count ≤ x3 then (zq_in x1 8 && zq_fu a4 x1.toNatClampNeg x2.toInt16.toInt32 (fun a4_4 => zq_fc (x1 + 1) (fun x1_5 => bJ2 x1_5 a1 a2 a3 a4_4 a5 a6 a7 a8 a9 a10 a11 a12 a13 a14))) else (zq_in x3 10 && (if (((a3 x3.toNatClampNeg) >>> (x1 &&& 31)) &&& 1) = 0 then zq_fc (x3 + 1) (fun x3_8 => zb_meet_12 bpost bJ2 x1 f0_count f0_built f0_lineLength f0_colourCount a1 a2 a3 a4 a5 a6 a7 a8 a9 a10 a11 a12 a13 a14 n x2 x3_8) else (zq_in x3 10 && zq_fc (x2 ||| (a3 x3.toNatClampNeg)) (fun x2_10 => zq_fc (x3 + 1) (fun x3_11 => zb_meet_12 bpost bJ2 x1 f0_count f0_built f0_lineLength f0_colourCount a1 a2 a3 a4 a5 a6 a7 a8 a9 a10 a11 a12 a13 a14 n x2_10 x3_11))))))
theorem zs_meet_12 {bpost : St2 → Bool} {post : St2 → Prop} {bJ2 : Int32 → (Nat → Int32) → (Nat → Int32) → (Nat → Int32) → (Nat → Int32) → (Nat → Int32) → (Nat → Int32) → (Nat → Int32) → (Nat → Int32) → (Nat → Int32) → (Nat → Int32) → (Nat → Int32) → (Nat → Int32) → (Nat → Int32) → (Nat → Int32) → Bool} {J2 : Int32 → (Nat → Int32) → (Nat → Int32) → (Nat → Int32) → (Nat → Int32) → (Nat → Int32) → (Nat → Int32) → (Nat → Int32) → (Nat → Int32) → (Nat → Int32) → (Nat → Int32) → (Nat → Int32) → (Nat → Int32) → (Nat → Int32) → (Nat → Int32) → Prop} {x1 : Int32} {f0_count : Int32} {f0_built : Int32} {f0_lineLength : Int32} {f0_colourCount : Int32} {a1 : Nat → Int32} {a2 : Nat → Int32} {a3 : Nat → Int32} {a4 : Nat → Int32} {a5 : Nat → Int32} {a6 : Nat → Int32} {a7 : Nat → Int32} {a8 : Nat → Int32} {a9 : Nat → Int32} {a10 : Nat → Int32} {a11 : Nat → Int32} {a12 : Nat → Int32} {a13 : Nat → Int32} {a14 : Nat → Int32} : ∀ (n : Nat) {x2 : Int32} {x3 : Int32} (h : zb_meet_12 bpost bJ2 x1 f0_count f0_built f0_lineLength f0_colourCount a1 a2 a3 a4 a5 a6 a7 a8 a9 a10 a11 a12 a13 a14 n x2 x3 = true) (hpost : ∀ y0, bpost y0 = true → post y0) (hJ2 : ∀ y0 y1 y2 y3 y4 y5 y6 y7 y8 y9 y10 y11 y12 y13 y14, bJ2 y0 y1 y2 y3 y4 y5 y6 y7 y8 y9 y10 y11 y12 y13 y14 = true → J2 y0 y1 y2 y3 y4 y5 y6 y7 y8 y9 y10 y11 y12 y13 y14), wX_meet_12 post J2 x1 f0_count f0_built f0_lineLength f0_colourCount a1 a2 a3 a4 a5 a6 a7 a8 a9 a10 a11 a12 a13 a14 n x2 x3 := by
  intro n
  induction n with
  | zero => intro x2 x3 h hpost hJ2; exact (Bool.false_ne_true h).elim
  | succ n ih =>
    intro x2 x3 h hpost hJ2
    exact zq_br h (fun _ h => zq_vi h (fun h => zq_na h (fun a4_4 h => zq_nm h (fun x1_5 h => hJ2 _ _ _ _ _ _ _ _ _ _ _ _ _ _ _ h)))) (fun _ h => zq_vi h (fun h => zq_br h (fun _ h => zq_nm h (fun x3_8 h => ih h hpost hJ2)) (fun _ h => zq_vi h (fun h => zq_nm h (fun x2_10 h => zq_nm h (fun x3_11 h => ih h hpost hJ2))))))
def zb_meet_2 (bpost : St2 → Bool) (f0_count : Int32) (f0_built : Int32) (f0_lineLength : Int32) (f0_colourCount : Int32) : Nat → Int32 → (Nat → Int32) → (Nat → Int32) → (Nat → Int32) → (Nat → Int32) → (Nat → Int32) → (Nat → Int32) → (Nat → Int32) → (Nat → Int32) → (Nat → Int32) → (Nat → Int32) → (Nat → Int32) → (Nat → Int32) → (Nat → Int32) → (Nat → Int32) → Bool
  | 0 => fun _ _ _ _ _ _ _ _ _ _ _ _ _ _ _ => false
  | n + 1 => fun x1 a1 a2 a3 a4 a5 a6 a7 a8 a9 a10 a11 a12 a13 a14 => (if 8 ≤ x1 then bpost (f0_count, f0_built, f0_lineLength, f0_colourCount, a1, a2, a3, a4, a5, a6, a7, a8, a9, a10, a11, a12, a13, a14) else zb_meet_12 bpost (zb_meet_2 bpost f0_count f0_built f0_lineLength f0_colourCount n) x1 f0_count f0_built f0_lineLength f0_colourCount a1 a2 a3 a4 a5 a6 a7 a8 a9 a10 a11 a12 a13 a14 12 0 0)
theorem zs_meet_2 {bpost : St2 → Bool} {post : St2 → Prop} {f0_count : Int32} {f0_built : Int32} {f0_lineLength : Int32} {f0_colourCount : Int32} : ∀ (n : Nat) {x1 : Int32} {a1 : (Nat → Int32)} {a2 : (Nat → Int32)} {a3 : (Nat → Int32)} {a4 : (Nat → Int32)} {a5 : (Nat → Int32)} {a6 : (Nat → Int32)} {a7 : (Nat → Int32)} {a8 : (Nat → Int32)} {a9 : (Nat → Int32)} {a10 : (Nat → Int32)} {a11 : (Nat → Int32)} {a12 : (Nat → Int32)} {a13 : (Nat → Int32)} {a14 : (Nat → Int32)} (h : zb_meet_2 bpost f0_count f0_built f0_lineLength f0_colourCount n x1 a1 a2 a3 a4 a5 a6 a7 a8 a9 a10 a11 a12 a13 a14 = true) (hpost : ∀ y0, bpost y0 = true → post y0), wX_meet_2 post f0_count f0_built f0_lineLength f0_colourCount n x1 a1 a2 a3 a4 a5 a6 a7 a8 a9 a10 a11 a12 a13 a14 := by
  intro n
  induction n with
  | zero => intro x1 a1 a2 a3 a4 a5 a6 a7 a8 a9 a10 a11 a12 a13 a14 h hpost; exact (Bool.false_ne_true h).elim
  | succ n ih =>
    intro x1 a1 a2 a3 a4 a5 a6 a7 a8 a9 a10 a11 a12 a13 a14 h hpost
    exact zq_br h (fun _ h => hpost _ h) (fun _ h => Exists.intro 12 (zs_meet_12 12 h hpost (fun _ _ _ _ _ _ _ _ _ _ _ _ _ _ _ h => ih h hpost)))
def zp_meet (bpost : St2 → Bool) (u : St2) : Bool := match u with
  | (f0_count, f0_built, f0_lineLength, f0_colourCount, a1, a2, a3, a4, a5, a6, a7, a8, a9, a10, a11, a12, a13, a14) => zb_meet_2 bpost f0_count f0_built f0_lineLength f0_colourCount 12 0 a1 a2 a3 a4 a5 a6 a7 a8 a9 a10 a11 a12 a13 a14
theorem zt_meet {bpost : St2 → Bool} {post : St2 → Prop} {u : St2} (h : zp_meet bpost u = true) (hpost : ∀ y0, bpost y0 = true → post y0) : wpX_meet post u := by
  obtain ⟨f0_count, f0_built, f0_lineLength, f0_colourCount, a1, a2, a3, a4, a5, a6, a7, a8, a9, a10, a11, a12, a13, a14⟩ := u
  exact Exists.intro 12 (zs_meet_2 12 h hpost)
end
section
def zb_lineUp_23 (bpost : St2 → Bool) (bJ9 : Int32 → Int32 → Int32 → (Nat → Int32) → (Nat → Int32) → (Nat → Int32) → (Nat → Int32) → (Nat → Int32) → (Nat → Int32) → (Nat → Int32) → (Nat → Int32) → (Nat → Int32) → (Nat → Int32) → (Nat → Int32) → (Nat → Int32) → (Nat → Int32) → (Nat → Int32) → Bool) (x1 : Int32) (x2 : Int32) (f0_count : Int32) (f0_built : Int32) (f0_lineLength : Int32) (f0_colourCount : Int32) (a1 : Nat → Int32) (a2 : Nat → Int32) (a3 : Nat → Int32) (a4 : Nat → Int32) (a5 : Nat → Int32) (a6 : Nat → Int32) (a7 : Nat → Int32) (a8 : Nat → Int32) (a9 : Nat → Int32) (a10 : Nat → Int32) (a11 : Nat → Int32) (a12 : Nat → Int32) (a13 : Nat → Int32) (a14 : Nat → Int32) : Nat → Int32 → Int32 → Int32 → Bool
  | 0 => fun _ _ _ => false
  | n + 1 => fun x3 x4 x5 => (if 8 ≤ x5 then (if x3 < 0 then zq_fc (x2 + 1) (fun x2_4 => bJ9 x1 x2_4 f0_lineLength a1 a2 a3 a4 a5 a6 a7 a8 a9 a10 a11 a12 a13 a14) else zq_fc (x1 ||| ((1 : Int32) <<< (x3 &&& 31))) (fun x1_5 => (zq_in f0_lineLength 8 && zq_fu a7 f0_lineLength.toNatClampNeg x3.toInt8.toInt32 (fun a7_7 => zq_fc (f0_lineLength + 1) (fun f_8 => zq_fc (x2 + 1) (fun x2_9 => bJ9 x1_5 x2_9 f_8 a1 a2 a3 a4 a5 a6 a7_7 a8 a9 a10 a11 a12 a13 a14)))))) else (zq_in x5 8 && zq_fc (a4 x5.toNatClampNeg) (fun v_1 => zp_sizeOf (fun r_11 => (if ((x1 >>> (x5 &&& 31)) &&& 1) = 0 then (if r_11 ≤ x4 then zq_fc (x5 + 1) (fun x5_15 => zb_lineUp_23 bpost bJ9 x1 x2 f0_count f0_built f0_lineLength f0_colourCount a1 a2 a3 a4 a5 a6 a7 a8 a9 a10 a11 a12 a13 a14 n x3 x4 x5_15) else zq_fc (x5 + 1) (fun x5_16 => zb_lineUp_23 bpost bJ9 x1 x2 f0_count f0_built f0_lineLength f0_colourCount a1 a2 a3 a4 a5 a6 a7 a8 a9 a10 a11 a12 a13 a14 n x5 r_11 x5_16)) else zq_fc (x5 + 1) (fun x5_13 => zb_lineUp_23 bpost bJ9 x1 x2 f0_count f0_built f0_lineLength f0_colourCount a1 a2 a3 a4 a5 a6 a7 a8 a9 a10 a11 a12 a13 a14 n x3 x4 x5_13))) () v_1)))
theorem zs_lineUp_23 {bpost : St2 → Bool} {post : St2 → Prop} {bJ9 : Int32 → Int32 → Int32 → (Nat → Int32) → (Nat → Int32) → (Nat → Int32) → (Nat → Int32) → (Nat → Int32) → (Nat → Int32) → (Nat → Int32) → (Nat → Int32) → (Nat → Int32) → (Nat → Int32) → (Nat → Int32) → (Nat → Int32) → (Nat → Int32) → (Nat → Int32) → Bool} {J9 : Int32 → Int32 → Int32 → (Nat → Int32) → (Nat → Int32) → (Nat → Int32) → (Nat → Int32) → (Nat → Int32) → (Nat → Int32) → (Nat → Int32) → (Nat → Int32) → (Nat → Int32) → (Nat → Int32) → (Nat → Int32) → (Nat → Int32) → (Nat → Int32) → (Nat → Int32) → Prop} {x1 : Int32} {x2 : Int32} {f0_count : Int32} {f0_built : Int32} {f0_lineLength : Int32} {f0_colourCount : Int32} {a1 : Nat → Int32} {a2 : Nat → Int32} {a3 : Nat → Int32} {a4 : Nat → Int32} {a5 : Nat → Int32} {a6 : Nat → Int32} {a7 : Nat → Int32} {a8 : Nat → Int32} {a9 : Nat → Int32} {a10 : Nat → Int32} {a11 : Nat → Int32} {a12 : Nat → Int32} {a13 : Nat → Int32} {a14 : Nat → Int32} : ∀ (n : Nat) {x3 : Int32} {x4 : Int32} {x5 : Int32} (h : zb_lineUp_23 bpost bJ9 x1 x2 f0_count f0_built f0_lineLength f0_colourCount a1 a2 a3 a4 a5 a6 a7 a8 a9 a10 a11 a12 a13 a14 n x3 x4 x5 = true) (hpost : ∀ y0, bpost y0 = true → post y0) (hJ9 : ∀ y0 y1 y2 y3 y4 y5 y6 y7 y8 y9 y10 y11 y12 y13 y14 y15 y16, bJ9 y0 y1 y2 y3 y4 y5 y6 y7 y8 y9 y10 y11 y12 y13 y14 y15 y16 = true → J9 y0 y1 y2 y3 y4 y5 y6 y7 y8 y9 y10 y11 y12 y13 y14 y15 y16), wX_lineUp_23 post J9 x1 x2 f0_count f0_built f0_lineLength f0_colourCount a1 a2 a3 a4 a5 a6 a7 a8 a9 a10 a11 a12 a13 a14 n x3 x4 x5 := by
  intro n
  induction n with
  | zero => intro x3 x4 x5 h hpost hJ9; exact (Bool.false_ne_true h).elim
  | succ n ih =>
    intro x3 x4 x5 h hpost hJ9
    exact zq_br h (fun _ h => zq_br h (fun _ h => zq_nm h (fun x2_4 h => hJ9 _ _ _ _ _ _ _ _ _ _ _ _ _ _ _ _ _ h)) (fun _ h => zq_nm h (fun x1_5 h => zq_vi h (fun h => zq_na h (fun a7_7 h => zq_nm h (fun f_8 h => zq_nm h (fun x2_9 h => hJ9 _ _ _ _ _ _ _ _ _ _ _ _ _ _ _ _ _ h))))))) (fun _ h => zq_vi h (fun h => zq_gg h (fun h => zt_sizeOf h (fun r_11 h => zq_br h (fun _ h => zq_br h (fun _ h => zq_nm h (fun x5_15 h => ih h hpost hJ9)) (fun _ h => zq_nm h (fun x5_16 h => ih h hpost hJ9))) (fun _ h => zq_nm h (fun x5_13 h => ih h hpost hJ9))))))
def zb_lineUp_9 (bpost : St2 → Bool) (f0_count : Int32) (f0_built : Int32) (f0_colourCount : Int32) : Nat → Int32 → Int32 → Int32 → (Nat → Int32) → (Nat → Int32) → (Nat → Int32) → (Nat → Int32) → (Nat → Int32) → (Nat → Int32) → (Nat → Int32) → (Nat → Int32) → (Nat → Int32) → (Nat → Int32) → (Nat → Int32) → (Nat → Int32) → (Nat → Int32) → (Nat → Int32) → Bool
  | 0 => fun _ _ _ _ _ _ _ _ _ _ _ _ _ _ _ _ _ => false
  | n + 1 => fun x1 x2 f0_lineLength a1 a2 a3 a4 a5 a6 a7 a8 a9 a10 a11 a12 a13 a14 => (if 8 ≤ x2 then bpost (f0_count, f0_built, f0_lineLength, f0_colourCount, a1, a2, a3, a4, a5, a6, a7, a8, a9, a10, a11, a12, a13, a14) else zb_lineUp_23 bpost (zb_lineUp_9 bpost f0_count f0_built f0_colourCount n) x1 x2 f0_count f0_built f0_lineLength f0_colourCount a1 a2 a3 a4 a5 a6 a7 a8 a9 a10 a11 a12 a13 a14 12 (- 1) 0 0)
theorem zs_lineUp_9 {bpost : St2 → Bool} {post : St2 → Prop} {f0_count : Int32} {f0_built : Int32} {f0_colourCount : Int32} : ∀ (n : Nat) {x1 : Int32} {x2 : Int32} {f0_lineLength : Int32} {a1 : (Nat → Int32)} {a2 : (Nat → Int32)} {a3 : (Nat → Int32)} {a4 : (Nat → Int32)} {a5 : (Nat → Int32)} {a6 : (Nat → Int32)} {a7 : (Nat → Int32)} {a8 : (Nat → Int32)} {a9 : (Nat → Int32)} {a10 : (Nat → Int32)} {a11 : (Nat → Int32)} {a12 : (Nat → Int32)} {a13 : (Nat → Int32)} {a14 : (Nat → Int32)} (h : zb_lineUp_9 bpost f0_count f0_built f0_colourCount n x1 x2 f0_lineLength a1 a2 a3 a4 a5 a6 a7 a8 a9 a10 a11 a12 a13 a14 = true) (hpost : ∀ y0, bpost y0 = true → post y0), wX_lineUp_9 post f0_count f0_built f0_colourCount n x1 x2 f0_lineLength a1 a2 a3 a4 a5 a6 a7 a8 a9 a10 a11 a12 a13 a14 := by
  intro n
  induction n with
  | zero => intro x1 x2 f0_lineLength a1 a2 a3 a4 a5 a6 a7 a8 a9 a10 a11 a12 a13 a14 h hpost; exact (Bool.false_ne_true h).elim
  | succ n ih =>
    intro x1 x2 f0_lineLength a1 a2 a3 a4 a5 a6 a7 a8 a9 a10 a11 a12 a13 a14 h hpost
    exact zq_br h (fun _ h => hpost _ h) (fun _ h => Exists.intro 12 (zs_lineUp_23 12 h hpost (fun _ _ _ _ _ _ _ _ _ _ _ _ _ _ _ _ _ h => ih h hpost)))
def zp_lineUp (bpost : St2 → Bool) (u : St2) : Bool := match u with
  | (f0_count, f0_built, f0_lineLength, f0_colourCount, a1, a2, a3, a4, a5, a6, a7, a8, a9, a10, a11, a12, a13, a14) => zb_lineUp_9 bpost f0_count f0_built f0_colourCount 12 0 0 0 a1 a2 a3 a4 a5 a6 a7 a8 a9 a10 a11 a12 a13 a14
theorem zt_lineUp {bpost : St2 → Bool} {post : St2 → Prop} {u : St2} (h : zp_lineUp bpost u = true) (hpost : ∀ y0, bpost y0 = true → post y0) : wpX_lineUp post u := by
  obtain ⟨f0_count, f0_built, f0_lineLength, f0_colourCount, a1, a2, a3, a4, a5, a6, a7, a8, a9, a10, a11, a12, a13, a14⟩ := u
  exact Exists.intro 12 (zs_lineUp_9 12 h hpost)
def zb_opened_4 (bpost : Int32 → Bool) (x1 : Int32) (f0_count : Int32) (f0_built : Int32) (f0_lineLength : Int32) (f0_colourCount : Int32) (a1 : Nat → Int32) (a2 : Nat → Int32) (a3 : Nat → Int32) (a4 : Nat → Int32) (a5 : Nat → Int32) (a6 : Nat → Int32) (a7 : Nat → Int32) (a8 : Nat → Int32) (a9 : Nat → Int32) (a10 : Nat → Int32) (a11 : Nat → Int32) (a12 : Nat → Int32) (a13 : Nat → Int32) (a14 : Nat → Int32) : Nat → Int32 → Int32 → Bool
  | 0 => fun _ _ => false
  | n + 1 => fun x2 x3 => (if x1 ≤ x3 then bpost x2 else (zq_in x3 8 && (zq_in (a7 x3.toNatClampNeg) 8 && (if (a5 (a7 x3.toNatClampNeg).toNatClampNeg) < x2 then zq_fc (x3 + 1) (fun x3_5 => zb_opened_4 bpost x1 f0_count f0_built f0_lineLength f0_colourCount a1 a2 a3 a4 a5 a6 a7 a8 a9 a10 a11 a12 a13 a14 n x2 x3_5) else (zq_in x3 8 && (zq_in (a7 x3.toNatClampNeg) 8 && zq_fc ((a5 (a7 x3.toNatClampNeg).toNatClampNeg) + 1) (fun x2_8 => zq_fc (x3 + 1) (fun x3_9 => zb_opened_4 bpost x1 f0_count f0_built f0_lineLength f0_colourCount a1 a2 a3 a4 a5 a6 a7 a8 a9 a10 a11 a12 a13 a14 n x2_8 x3_9))))))))
theorem zs_opened_4 {bpost : Int32 → Bool} {post : Int32 → Prop} {x1 : Int32} {f0_count : Int32} {f0_built : Int32} {f0_lineLength : Int32} {f0_colourCount : Int32} {a1 : Nat → Int32} {a2 : Nat → Int32} {a3 : Nat → Int32} {a4 : Nat → Int32} {a5 : Nat → Int32} {a6 : Nat → Int32} {a7 : Nat → Int32} {a8 : Nat → Int32} {a9 : Nat → Int32} {a10 : Nat → Int32} {a11 : Nat → Int32} {a12 : Nat → Int32} {a13 : Nat → Int32} {a14 : Nat → Int32} : ∀ (n : Nat) {x2 : Int32} {x3 : Int32} (h : zb_opened_4 bpost x1 f0_count f0_built f0_lineLength f0_colourCount a1 a2 a3 a4 a5 a6 a7 a8 a9 a10 a11 a12 a13 a14 n x2 x3 = true) (hpost : ∀ y0, bpost y0 = true → post y0), wX_opened_4 post x1 f0_count f0_built f0_lineLength f0_colourCount a1 a2 a3 a4 a5 a6 a7 a8 a9 a10 a11 a12 a13 a14 n x2 x3 := by
  intro n
  induction n with
  | zero => intro x2 x3 h hpost; exact (Bool.false_ne_true h).elim
  | succ n ih =>
    intro x2 x3 h hpost
    exact zq_br h (fun _ h => hpost _ h) (fun _ h => zq_vi h (fun h => zq_vi h (fun h => zq_br h (fun _ h => zq_nm h (fun x3_5 h => ih h hpost)) (fun _ h => zq_vi h (fun h => zq_vi h (fun h => zq_nm h (fun x2_8 h => zq_nm h (fun x3_9 h => ih h hpost))))))))
def zp_opened (bpost : Int32 → Bool) (u : St2) (p0 : Int32) : Bool := match u with
  | (f0_count, f0_built, f0_lineLength, f0_colourCount, a1, a2, a3, a4, a5, a6, a7, a8, a9, a10, a11, a12, a13, a14) => zb_opened_4 bpost p0 f0_count f0_built f0_lineLength f0_colourCount a1 a2 a3 a4 a5 a6 a7 a8 a9 a10 a11 a12 a13 a14 12 0 0
theorem zt_opened {bpost : Int32 → Bool} {post : Int32 → Prop} {u : St2} {p0 : Int32} (h : zp_opened bpost u p0 = true) (hpost : ∀ y0, bpost y0 = true → post y0) : wpX_opened post u p0 := by
  obtain ⟨f0_count, f0_built, f0_lineLength, f0_colourCount, a1, a2, a3, a4, a5, a6, a7, a8, a9, a10, a11, a12, a13, a14⟩ := u
  exact Exists.intro 12 (zs_opened_4 12 h hpost)
def zb_nextColour_74 (bpost : Int32 → Bool) (x3 : Int32) (x4 : Int32) (f0_count : Int32) (f0_built : Int32) (f0_lineLength : Int32) (f0_colourCount : Int32) (a1 : Nat → Int32) (a2 : Nat → Int32) (a3 : Nat → Int32) (a4 : Nat → Int32) (a5 : Nat → Int32) (a6 : Nat → Int32) (a7 : Nat → Int32) (a8 : Nat → Int32) (a9 : Nat → Int32) (a10 : Nat → Int32) (a11 : Nat → Int32) (a12 : Nat → Int32) (a13 : Nat → Int32) (a14 : Nat → Int32) : Nat → Int32 → Bool
  | 0 => fun _ => false
  | n + 1 => fun x5 => (if x3 < x5 then bpost (- 1) else (if (f0_colourCount - 1) ≤ x5 then bpost (- 1) else (if ((x4 >>> (x5 &&& 31)) &&& 1) = 0 then bpost x5 else zq_fc (x5 + 1) (fun x5_6 => zb_nextColour_74 bpost x3 x4 f0_count f0_built f0_lineLength f0_colourCount a1 a2 a3 a4 a5 a6 a7 a8 a9 a10 a11 a12 a13 a14 n x5_6))))
theorem zs_nextColour_74 {bpost : Int32 → Bool} {post : Int32 → Prop} {x3 : Int32} {x4 : Int32} {f0_count : Int32} {f0_built : Int32} {f0_lineLength : Int32} {f0_colourCount : Int32} {a1 : Nat → Int32} {a2 : Nat → Int32} {a3 : Nat → Int32} {a4 : Nat → Int32} {a5 : Nat → Int32} {a6 : Nat → Int32} {a7 : Nat → Int32} {a8 : Nat → Int32} {a9 : Nat → Int32} {a10 : Nat → Int32} {a11 : Nat → Int32} {a12 : Nat → Int32} {a13 : Nat → Int32} {a14 : Nat → Int32} : ∀ (n : Nat) {x5 : Int32} (h : zb_nextColour_74 bpost x3 x4 f0_count f0_built f0_lineLength f0_colourCount a1 a2 a3 a4 a5 a6 a7 a8 a9 a10 a11 a12 a13 a14 n x5 = true) (hpost : ∀ y0, bpost y0 = true → post y0), wX_nextColour_74 post x3 x4 f0_count f0_built f0_lineLength f0_colourCount a1 a2 a3 a4 a5 a6 a7 a8 a9 a10 a11 a12 a13 a14 n x5 := by
  intro n
  induction n with
  | zero => intro x5 h hpost; exact (Bool.false_ne_true h).elim
  | succ n ih =>
    intro x5 h hpost
    exact zq_br h (fun _ h => hpost _ h) (fun _ h => zq_br h (fun _ h => hpost _ h) (fun _ h => zq_br h (fun _ h => hpost _ h) (fun _ h => zq_nm h (fun x5_6 h => ih h hpost))))
def zb_nextColour_16 (bpost : Int32 → Bool) (x1 : Int32) (x2 : Int32) (x3 : Int32) (f0_count : Int32) (f0_built : Int32) (f0_lineLength : Int32) (f0_colourCount : Int32) (a1 : Nat → Int32) (a2 : Nat → Int32) (a3 : Nat → Int32) (a4 : Nat → Int32) (a5 : Nat → Int32) (a6 : Nat → Int32) (a7 : Nat → Int32) (a8 : Nat → Int32) (a9 : Nat → Int32) (a10 : Nat → Int32) (a11 : Nat → Int32) (a12 : Nat → Int32) (a13 : Nat → Int32) (a14 : Nat → Int32) : Nat → Int32 → Int32 → Bool
  | 0 => fun _ _ => false
  | n + 1 => fun x4 x5 => (if x1 ≤ x5 then zb_nextColour_74 bpost x3 x4 f0_count f0_built f0_lineLength f0_colourCount a1 a2 a3 a4 a5 a6 a7 a8 a9 a10 a11 a12 a13 a14 12 x2 else (zq_in x1 8 && (zq_in (a7 x1.toNatClampNeg) 8 && (zq_in x5 8 && (if (((a4 (a7 x1.toNatClampNeg).toNatClampNeg) >>> ((a7 x5.toNatClampNeg) &&& 31)) &&& 1) = 0 then zq_fc (x5 + 1) (fun x5_11 => zb_nextColour_16 bpost x1 x2 x3 f0_count f0_built f0_lineLength f0_colourCount a1 a2 a3 a4 a5 a6 a7 a8 a9 a10 a11 a12 a13 a14 n x4 x5_11) else (zq_in x5 8 && (zq_in (a7 x5.toNatClampNeg) 8 && zq_fc (x4 ||| ((1 : Int32) <<< ((a5 (a7 x5.toNatClampNeg).toNatClampNeg) &&& 31))) (fun x4_14 => zq_fc (x5 + 1) (fun x5_15 => zb_nextColour_16 bpost x1 x2 x3 f0_count f0_built f0_lineLength f0_colourCount a1 a2 a3 a4 a5 a6 a7 a8 a9 a10 a11 a12 a13 a14 n x4_14 x5_15)))))))))
theorem zs_nextColour_16 {bpost : Int32 → Bool} {post : Int32 → Prop} {x1 : Int32} {x2 : Int32} {x3 : Int32} {f0_count : Int32} {f0_built : Int32} {f0_lineLength : Int32} {f0_colourCount : Int32} {a1 : Nat → Int32} {a2 : Nat → Int32} {a3 : Nat → Int32} {a4 : Nat → Int32} {a5 : Nat → Int32} {a6 : Nat → Int32} {a7 : Nat → Int32} {a8 : Nat → Int32} {a9 : Nat → Int32} {a10 : Nat → Int32} {a11 : Nat → Int32} {a12 : Nat → Int32} {a13 : Nat → Int32} {a14 : Nat → Int32} : ∀ (n : Nat) {x4 : Int32} {x5 : Int32} (h : zb_nextColour_16 bpost x1 x2 x3 f0_count f0_built f0_lineLength f0_colourCount a1 a2 a3 a4 a5 a6 a7 a8 a9 a10 a11 a12 a13 a14 n x4 x5 = true) (hpost : ∀ y0, bpost y0 = true → post y0), wX_nextColour_16 post x1 x2 x3 f0_count f0_built f0_lineLength f0_colourCount a1 a2 a3 a4 a5 a6 a7 a8 a9 a10 a11 a12 a13 a14 n x4 x5 := by
  intro n
  induction n with
  | zero => intro x4 x5 h hpost; exact (Bool.false_ne_true h).elim
  | succ n ih =>
    intro x4 x5 h hpost
    exact zq_br h (fun _ h => Exists.intro 12 (zs_nextColour_74 12 h hpost)) (fun _ h => zq_vi h (fun h => zq_vi h (fun h => zq_vi h (fun h => zq_br h (fun _ h => zq_nm h (fun x5_11 h => ih h hpost)) (fun _ h => zq_vi h (fun h => zq_vi h (fun h => zq_nm h (fun x4_14 h => zq_nm h (fun x5_15 h => ih h hpost)))))))))
def zp_nextColour (bpost : Int32 → Bool) (u : St2) (p0 : Int32) (p1 : Int32) (p2 : Int32) : Bool := match u with
  | (f0_count, f0_built, f0_lineLength, f0_colourCount, a1, a2, a3, a4, a5, a6, a7, a8, a9, a10, a11, a12, a13, a14) => (if p2 < f0_colourCount then zb_nextColour_16 bpost p0 p1 p2 f0_count f0_built f0_lineLength f0_colourCount a1 a2 a3 a4 a5 a6 a7 a8 a9 a10 a11 a12 a13 a14 12 0 0 else bpost (- 1))
theorem zt_nextColour {bpost : Int32 → Bool} {post : Int32 → Prop} {u : St2} {p0 : Int32} {p1 : Int32} {p2 : Int32} (h : zp_nextColour bpost u p0 p1 p2 = true) (hpost : ∀ y0, bpost y0 = true → post y0) : wpX_nextColour post u p0 p1 p2 := by
  obtain ⟨f0_count, f0_built, f0_lineLength, f0_colourCount, a1, a2, a3, a4, a5, a6, a7, a8, a9, a10, a11, a12, a13, a14⟩ := u
  exact zq_br h (fun _ h => Exists.intro 12 (zs_nextColour_16 12 h hpost)) (fun _ h => hpost _ h)
def zb_keep_7 (bpost : St2 → Bool) (f0_count : Int32) (f0_built : Int32) (f0_lineLength : Int32) (f0_colourCount : Int32) : Nat → Int32 → (Nat → Int32) → (Nat → Int32) → (Nat → Int32) → (Nat → Int32) → (Nat → Int32) → (Nat → Int32) → (Nat → Int32) → (Nat → Int32) → (Nat → Int32) → (Nat → Int32) → (Nat → Int32) → (Nat → Int32) → (Nat → Int32) → (Nat → Int32) → Bool
  | 0 => fun _ _ _ _ _ _ _ _ _ _ _ _ _ _ _ => false
  | n + 1 => fun x2 a1 a2 a3 a4 a5 a6 a7 a8 a9 a10 a11 a12 a13 a14 => (if f0_lineLength ≤ x2 then bpost (f0_count, f0_built, f0_lineLength, f0_colourCount, a1, a2, a3, a4, a5, a6, a7, a8, a9, a10, a11, a12, a13, a14) else (zq_in x2 8 && (zq_in x2 8 && (zq_in (a7 x2.toNatClampNeg) 8 && (zq_in (a7 x2.toNatClampNeg) 8 && zq_fu a6 (a7 x2.toNatClampNeg).toNatClampNeg (vp_nar .byte (a5 (a7 x2.toNatClampNeg).toNatClampNeg)) (fun a6_6 => zq_fc (x2 + 1) (fun x2_7 => zb_keep_7 bpost f0_count f0_built f0_lineLength f0_colourCount n x2_7 a1 a2 a3 a4 a5 a6_6 a7 a8 a9 a10 a11 a12 a13 a14)))))))
theorem zs_keep_7 {bpost : St2 → Bool} {post : St2 → Prop} {f0_count : Int32} {f0_built : Int32} {f0_lineLength : Int32} {f0_colourCount : Int32} : ∀ (n : Nat) {x2 : Int32} {a1 : (Nat → Int32)} {a2 : (Nat → Int32)} {a3 : (Nat → Int32)} {a4 : (Nat → Int32)} {a5 : (Nat → Int32)} {a6 : (Nat → Int32)} {a7 : (Nat → Int32)} {a8 : (Nat → Int32)} {a9 : (Nat → Int32)} {a10 : (Nat → Int32)} {a11 : (Nat → Int32)} {a12 : (Nat → Int32)} {a13 : (Nat → Int32)} {a14 : (Nat → Int32)} (h : zb_keep_7 bpost f0_count f0_built f0_lineLength f0_colourCount n x2 a1 a2 a3 a4 a5 a6 a7 a8 a9 a10 a11 a12 a13 a14 = true) (hpost : ∀ y0, bpost y0 = true → post y0), wX_keep_7 post f0_count f0_built f0_lineLength f0_colourCount n x2 a1 a2 a3 a4 a5 a6 a7 a8 a9 a10 a11 a12 a13 a14 := by
  intro n
  induction n with
  | zero => intro x2 a1 a2 a3 a4 a5 a6 a7 a8 a9 a10 a11 a12 a13 a14 h hpost; exact (Bool.false_ne_true h).elim
  | succ n ih =>
    intro x2 a1 a2 a3 a4 a5 a6 a7 a8 a9 a10 a11 a12 a13 a14 h hpost
    exact zq_br h (fun _ h => hpost _ h) (fun _ h => zq_vi h (fun h => zq_vi h (fun h => zq_vi h (fun h => zq_vi h (fun h => zq_na h (fun a6_6 h => zq_nm h (fun x2_7 h => ih h hpost)))))))
def zp_keep (bpost : St2 → Bool) (u : St2) (p0 : Int32) : Bool := match u with
  | (f0_count, f0_built, f0_lineLength, f0_colourCount, a1, a2, a3, a4, a5, a6, a7, a8, a9, a10, a11, a12, a13, a14) => zb_keep_7 bpost f0_count f0_built f0_lineLength p0 12 0 a1 a2 a3 a4 a5 a6 a7 a8 a9 a10 a11 a12 a13 a14
theorem zt_keep {bpost : St2 → Bool} {post : St2 → Prop} {u : St2} {p0 : Int32} (h : zp_keep bpost u p0 = true) (hpost : ∀ y0, bpost y0 = true → post y0) : wpX_keep post u p0 := by
  obtain ⟨f0_count, f0_built, f0_lineLength, f0_colourCount, a1, a2, a3, a4, a5, a6, a7, a8, a9, a10, a11, a12, a13, a14⟩ := u
  exact Exists.intro 12 (zs_keep_7 12 h hpost)
def zb_paint_159 (bpost : St2 → Bool) (bJ64 : Int32 → Int32 → Int32 → Int32 → Int32 → Int32 → (Nat → Int32) → (Nat → Int32) → (Nat → Int32) → (Nat → Int32) → (Nat → Int32) → (Nat → Int32) → (Nat → Int32) → (Nat → Int32) → (Nat → Int32) → (Nat → Int32) → (Nat → Int32) → (Nat → Int32) → (Nat → Int32) → (Nat → Int32) → Bool) (x1 : Int32) (x2 : Int32) (z0 : Int32) (f0_count : Int32) (f0_built : Int32) (f0_lineLength : Int32) (f0_colourCount : Int32) (am11 : Nat → Int32) (am12 : Nat → Int32) (am13 : Nat → Int32) (am14 : Nat → Int32) (am15 : Nat → Int32) (am16 : Nat → Int32) (am17 : Nat → Int32) (am18 : Nat → Int32) (am19 : Nat → Int32) (am110 : Nat → Int32) (am111 : Nat → Int32) (am112 : Nat → Int32) (am113 : Nat → Int32) (am114 : Nat → Int32) : Bool := zp_keep (fun u => match u with | (f0_count_69, f0_built_70, f0_lineLength_71, f0_colourCount_72, am1591_75, am1592_78, am1593_81, am1594_84, am1595_87, am1596_90, am1597_93, am1598_96, am1599_99, am15910_102, am15911_105, am15912_108, am15913_111, am15914_114) => zq_fc (x1 + (- 1)) (fun x1_115 => zq_fc (x2 + 1) (fun x2_116 => bJ64 x1_115 x2_116 f0_count_69 f0_built_70 f0_lineLength_71 f0_colourCount_72 am1591_75 am1592_78 am1593_81 am1594_84 am1595_87 am1596_90 am1597_93 am1598_96 am1599_99 am15910_102 am15911_105 am15912_108 am15913_111 am15914_114))) (f0_count, f0_built, f0_lineLength, f0_colourCount, am11, am12, am13, am14, am15, am16, am17, am18, am19, am110, am111, am112, am113, am114) z0
theorem zs_paint_159 {bpost : St2 → Bool} {post : St2 → Prop} {bJ64 : Int32 → Int32 → Int32 → Int32 → Int32 → Int32 → (Nat → Int32) → (Nat → Int32) → (Nat → Int32) → (Nat → Int32) → (Nat → Int32) → (Nat → Int32) → (Nat → Int32) → (Nat → Int32) → (Nat → Int32) → (Nat → Int32) → (Nat → Int32) → (Nat → Int32) → (Nat → Int32) → (Nat → Int32) → Bool} {J64 : Int32 → Int32 → Int32 → Int32 → Int32 → Int32 → (Nat → Int32) → (Nat → Int32) → (Nat → Int32) → (Nat → Int32) → (Nat → Int32) → (Nat → Int32) → (Nat → Int32) → (Nat → Int32) → (Nat → Int32) → (Nat → Int32) → (Nat → Int32) → (Nat → Int32) → (Nat → Int32) → (Nat → Int32) → Prop} {x1 : Int32} {x2 : Int32} {z0 : Int32} {f0_count : Int32} {f0_built : Int32} {f0_lineLength : Int32} {f0_colourCount : Int32} {am11 : Nat → Int32} {am12 : Nat → Int32} {am13 : Nat → Int32} {am14 : Nat → Int32} {am15 : Nat → Int32} {am16 : Nat → Int32} {am17 : Nat → Int32} {am18 : Nat → Int32} {am19 : Nat → Int32} {am110 : Nat → Int32} {am111 : Nat → Int32} {am112 : Nat → Int32} {am113 : Nat → Int32} {am114 : Nat → Int32} (h : zb_paint_159 bpost bJ64 x1 x2 z0 f0_count f0_built f0_lineLength f0_colourCount am11 am12 am13 am14 am15 am16 am17 am18 am19 am110 am111 am112 am113 am114 = true) (hpost : ∀ y0, bpost y0 = true → post y0) (hJ64 : ∀ y0 y1 y2 y3 y4 y5 y6 y7 y8 y9 y10 y11 y12 y13 y14 y15 y16 y17 y18 y19, bJ64 y0 y1 y2 y3 y4 y5 y6 y7 y8 y9 y10 y11 y12 y13 y14 y15 y16 y17 y18 y19 = true → J64 y0 y1 y2 y3 y4 y5 y6 y7 y8 y9 y10 y11 y12 y13 y14 y15 y16 y17 y18 y19) : wX_paint_159 post J64 x1 x2 z0 f0_count f0_built f0_lineLength f0_colourCount am11 am12 am13 am14 am15 am16 am17 am18 am19 am110 am111 am112 am113 am114 := by
  exact zt_keep h (fun u h => by obtain ⟨f0_count_69, f0_built_70, f0_lineLength_71, f0_colourCount_72, am1591_75, am1592_78, am1593_81, am1594_84, am1595_87, am1596_90, am1597_93, am1598_96, am1599_99, am15910_102, am15911_105, am15912_108, am15913_111, am15914_114⟩ := u; exact zq_nm h (fun x1_115 h => zq_nm h (fun x2_116 h => hJ64 _ _ _ _ _ _ _ _ _ _ _ _ _ _ _ _ _ _ _ _ h)))
def zb_paint_64 (bpost : St2 → Bool) : Nat → Int32 → Int32 → Int32 → Int32 → Int32 → Int32 → (Nat → Int32) → (Nat → Int32) → (Nat → Int32) → (Nat → Int32) → (Nat → Int32) → (Nat → Int32) → (Nat → Int32) → (Nat → Int32) → (Nat → Int32) → (Nat → Int32) → (Nat → Int32) → (Nat → Int32) → (Nat → Int32) → (Nat → Int32) → Bool
  | 0 => fun _ _ _ _ _ _ _ _ _ _ _ _ _ _ _ _ _ _ _ _ => false
  | n + 1 => fun x1 x2 f0_count f0_built f0_lineLength f0_colourCount am11 am12 am13 am14 am15 am16 am17 am18 am19 am110 am111 am112 am113 am114 => (if 65536 ≤ x2 then bpost (f0_count, f0_built, f0_lineLength, f0_colourCount, am11, am12, am13, am14, am15, am16, am17, am18, am19, am110, am111, am112, am113, am114) else (if x1 < 0 then bpost (f0_count, f0_built, f0_lineLength, f0_colourCount, am11, am12, am13, am14, am15, am16, am17, am18, am19, am110, am111, am112, am113, am114) else (if f0_lineLength ≤ 0 then bpost (f0_count, f0_built, f0_lineLength, f0_colourCount, am11, am12, am13, am14, am15, am16, am17, am18, am19, am110, am111, am112, am113, am114) else (zq_in x1 8 && zq_fc (am17 x1.toNatClampNeg) (fun x3_54 => zp_opened (fun r_55 => (zq_in x3_54 8 && zq_fc ((am15 x3_54.toNatClampNeg) + 1) (fun v_1 => zp_nextColour (fun r_57 => (zq_in x3_54 8 && zq_fu am15 x3_54.toNatClampNeg r_57.toInt8.toInt32 (fun am15_59 => (if 0 ≤ r_57 then (if x1 = (f0_lineLength - 1) then (if r_55 ≤ r_57 then zq_fc (r_55 + 1) (fun v_2 => zb_paint_159 bpost (zb_paint_64 bpost n) x1 x2 v_2 f0_count f0_built f0_lineLength f0_colourCount am11 am12 am13 am14 am15_59 am16 am17 am18 am19 am110 am111 am112 am113 am114) else zb_paint_159 bpost (zb_paint_64 bpost n) x1 x2 r_55 f0_count f0_built f0_lineLength f0_colourCount am11 am12 am13 am14 am15_59 am16 am17 am18 am19 am110 am111 am112 am113 am114) else zq_fc (x1 + 1) (fun x1_62 => (zq_in x1_62 8 && (zq_in (am17 x1_62.toNatClampNeg) 8 && zq_fu am15_59 (am17 x1_62.toNatClampNeg).toNatClampNeg (- 1) (fun am15_65 => zq_fc (x2 + 1) (fun x2_66 => zb_paint_64 bpost n x1_62 x2_66 f0_count f0_built f0_lineLength f0_colourCount am11 am12 am13 am14 am15_65 am16 am17 am18 am19 am110 am111 am112 am113 am114)))))) else zq_fc (x1 + (- 1)) (fun x1_117 => zq_fc (x2 + 1) (fun x2_118 => zb_paint_64 bpost n x1_117 x2_118 f0_count f0_built f0_lineLength f0_colourCount am11 am12 am13 am14 am15_59 am16 am17 am18 am19 am110 am111 am112 am113 am114)))))) (f0_count, f0_built, f0_lineLength, f0_colourCount, am11, am12, am13, am14, am15, am16, am17, am18, am19, am110, am111, am112, am113, am114) x1 v_1 r_55))) (f0_count, f0_built, f0_lineLength, f0_colourCount, am11, am12, am13, am14, am15, am16, am17, am18, am19, am110, am111, am112, am113, am114) x1)))))
theorem zs_paint_64 {bpost : St2 → Bool} {post : St2 → Prop} : ∀ (n : Nat) {x1 : Int32} {x2 : Int32} {f0_count : Int32} {f0_built : Int32} {f0_lineLength : Int32} {f0_colourCount : Int32} {am11 : (Nat → Int32)} {am12 : (Nat → Int32)} {am13 : (Nat → Int32)} {am14 : (Nat → Int32)} {am15 : (Nat → Int32)} {am16 : (Nat → Int32)} {am17 : (Nat → Int32)} {am18 : (Nat → Int32)} {am19 : (Nat → Int32)} {am110 : (Nat → Int32)} {am111 : (Nat → Int32)} {am112 : (Nat → Int32)} {am113 : (Nat → Int32)} {am114 : (Nat → Int32)} (h : zb_paint_64 bpost n x1 x2 f0_count f0_built f0_lineLength f0_colourCount am11 am12 am13 am14 am15 am16 am17 am18 am19 am110 am111 am112 am113 am114 = true) (hpost : ∀ y0, bpost y0 = true → post y0), wX_paint_64 post n x1 x2 f0_count f0_built f0_lineLength f0_colourCount am11 am12 am13 am14 am15 am16 am17 am18 am19 am110 am111 am112 am113 am114 := by
  intro n
  induction n with
  | zero => intro x1 x2 f0_count f0_built f0_lineLength f0_colourCount am11 am12 am13 am14 am15 am16 am17 am18 am19 am110 am111 am112 am113 am114 h hpost; exact (Bool.false_ne_true h).elim
  | succ n ih =>
    intro x1 x2 f0_count f0_built f0_lineLength f0_colourCount am11 am12 am13 am14 am15 am16 am17 am18 am19 am110 am111 am112 am113 am114 h hpost
    exact zq_br h (fun _ h => hpost _ h) (fun _ h => zq_br h (fun _ h => hpost _ h) (fun _ h => zq_br h (fun _ h => hpost _ h) (fun _ h => zq_vi h (fun h => zq_nm h (fun x3_54 h => zt_opened h (fun r_55 h => zq_vi h (fun h => zq_gg h (fun h => zt_nextColour h (fun r_57 h => zq_vi h (fun h => zq_na h (fun am15_59 h => zq_br h (fun _ h => zq_br h (fun _ h => zq_br h (fun _ h => zq_gg h (fun h => zs_paint_159 h hpost (fun _ _ _ _ _ _ _ _ _ _ _ _ _ _ _ _ _ _ _ _ h => ih h hpost))) (fun _ h => zs_paint_159 h hpost (fun _ _ _ _ _ _ _ _ _ _ _ _ _ _ _ _ _ _ _ _ h => ih h hpost))) (fun _ h => zq_nm h (fun x1_62 h => zq_vi h (fun h => zq_vi h (fun h => zq_na h (fun am15_65 h => zq_nm h (fun x2_66 h => ih h hpost))))))) (fun _ h => zq_nm h (fun x1_117 h => zq_nm h (fun x2_118 h => ih h hpost))))))))))))))
def zb_paint_14 (bpost : St2 → Bool) (f0_count : Int32) (f0_built : Int32) (f0_lineLength : Int32) (f0_colourCount : Int32) : Nat → Int32 → (Nat → Int32) → (Nat → Int32) → (Nat → Int32) → (Nat → Int32) → (Nat → Int32) → (Nat → Int32) → (Nat → Int32) → (Nat → Int32) → (Nat → Int32) → (Nat → Int32) → (Nat → Int32) → (Nat → Int32) → (Nat → Int32) → (Nat → Int32) → Bool
  | 0 => fun _ _ _ _ _ _ _ _ _ _ _ _ _ _ _ => false
  | n + 1 => fun x1 am11 am12 am13 am14 am15 am16 am17 am18 am19 am110 am111 am112 am113 am114 => (if f0_lineLength ≤ x1 then (if f0_lineLength ≤ 0 then zb_paint_64 bpost 12 0 0 f0_count f0_built f0_lineLength f0_colourCount am11 am12 am13 am14 am15 am16 am17 am18 am19 am110 am111 am112 am113 am114 else (zq_in (am17 0) 8 && zq_fu am15 (am17 0).toNatClampNeg (- 1) (fun am15_120 => zb_paint_64 bpost 12 0 0 f0_count f0_built f0_lineLength f0_colourCount am11 am12 am13 am14 am15_120 am16 am17 am18 am19 am110 am111 am112 am113 am114))) else (zq_in x1 8 && (zq_in (am17 x1.toNatClampNeg) 8 && zq_fu am16 (am17 x1.toNatClampNeg).toNatClampNeg x1.toInt8.toInt32 (fun am16_123 => zq_fc (x1 + 1) (fun x1_124 => zb_paint_14 bpost f0_count f0_built f0_lineLength f0_colourCount n x1_124 am11 am12 am13 am14 am15 am16_123 am17 am18 am19 am110 am111 am112 am113 am114)))))
theorem zs_paint_14 {bpost : St2 → Bool} {post : St2 → Prop} {f0_count : Int32} {f0_built : Int32} {f0_lineLength : Int32} {f0_colourCount : Int32} : ∀ (n : Nat) {x1 : Int32} {am11 : (Nat → Int32)} {am12 : (Nat → Int32)} {am13 : (Nat → Int32)} {am14 : (Nat → Int32)} {am15 : (Nat → Int32)} {am16 : (Nat → Int32)} {am17 : (Nat → Int32)} {am18 : (Nat → Int32)} {am19 : (Nat → Int32)} {am110 : (Nat → Int32)} {am111 : (Nat → Int32)} {am112 : (Nat → Int32)} {am113 : (Nat → Int32)} {am114 : (Nat → Int32)} (h : zb_paint_14 bpost f0_count f0_built f0_lineLength f0_colourCount n x1 am11 am12 am13 am14 am15 am16 am17 am18 am19 am110 am111 am112 am113 am114 = true) (hpost : ∀ y0, bpost y0 = true → post y0), wX_paint_14 post f0_count f0_built f0_lineLength f0_colourCount n x1 am11 am12 am13 am14 am15 am16 am17 am18 am19 am110 am111 am112 am113 am114 := by
  intro n
  induction n with
  | zero => intro x1 am11 am12 am13 am14 am15 am16 am17 am18 am19 am110 am111 am112 am113 am114 h hpost; exact (Bool.false_ne_true h).elim
  | succ n ih =>
    intro x1 am11 am12 am13 am14 am15 am16 am17 am18 am19 am110 am111 am112 am113 am114 h hpost
    exact zq_br h (fun _ h => zq_br h (fun _ h => Exists.intro 12 (zs_paint_64 12 h hpost)) (fun _ h => zq_vi h (fun h => zq_na h (fun am15_120 h => Exists.intro 12 (zs_paint_64 12 h hpost))))) (fun _ h => zq_vi h (fun h => zq_vi h (fun h => zq_na h (fun am16_123 h => zq_nm h (fun x1_124 h => ih h hpost)))))
def zp_paint (bpost : St2 → Bool) (u : St2) : Bool := match u with
  | (f0_count, f0_built, f0_lineLength, f0_colourCount, a1, a2, a3, a4, a5, a6, a7, a8, a9, a10, a11, a12, a13, a14) => zp_lineUp (fun u => match u with | (f0_count_2, f0_built_3, f0_lineLength_4, f0_colourCount_5, am11_8, am12_11, am13_14, am14_17, am15_20, am16_23, am17_26, am18_29, am19_32, am110_35, am111_38, am112_41, am113_44, am114_47) => zb_paint_14 bpost f0_count_2 f0_built_3 f0_lineLength_4 f0_lineLength_4 12 0 am11_8 am12_11 am13_14 am14_17 am15_20 am16_23 am17_26 am18_29 am19_32 am110_35 am111_38 am112_41 am113_44 am114_47) (f0_count, f0_built, f0_lineLength, f0_colourCount, a1, a2, a3, a4, a5, a6, a7, a8, a9, a10, a11, a12, a13, a14)
theorem zt_paint {bpost : St2 → Bool} {post : St2 → Prop} {u : St2} (h : zp_paint bpost u = true) (hpost : ∀ y0, bpost y0 = true → post y0) : wpX_paint post u := by
  obtain ⟨f0_count, f0_built, f0_lineLength, f0_colourCount, a1, a2, a3, a4, a5, a6, a7, a8, a9, a10, a11, a12, a13, a14⟩ := u
  unfold zp_paint at h
  unfold wpX_paint
  exact zt_lineUp h (fun u h => by obtain ⟨f0_count_2, f0_built_3, f0_lineLength_4, f0_colourCount_5, am11_8, am12_11, am13_14, am14_17, am15_20, am16_23, am17_26, am18_29, am19_32, am110_35, am111_38, am112_41, am113_44, am114_47⟩ := u; exact Exists.intro 12 (zs_paint_14 12 h hpost))
end
section
def zb_fillRow_40 (bpost : St2 → Bool) (bJ8 : Int32 → (Nat → Int32) → (Nat → Int32) → (Nat → Int32) → (Nat → Int32) → (Nat → Int32) → (Nat → Int32) → (Nat → Int32) → (Nat → Int32) → (Nat → Int32) → (Nat → Int32) → (Nat → Int32) → (Nat → Int32) → (Nat → Int32) → (Nat → Int32) → Bool) (x1 : Int32) (x2 : Int32) (x3 : Int32) (z0 : Int32) (f0_count : Int32) (f0_built : Int32) (f0_lineLength : Int32) (f0_colourCount : Int32) (a1 : Nat → Int32) (a2 : Nat → Int32) (a3 : Nat → Int32) (a4 : Nat → Int32) (a5 : Nat → Int32) (a6 : Nat → Int32) (a7 : Nat → Int32) (a8 : Nat → Int32) (a9 : Nat → Int32) (a10 : Nat → Int32) (a11 : Nat → Int32) (a12 : Nat → Int32) (a13 : Nat → Int32) (a14 : Nat → Int32) : Bool := (if z0 = 0 then (zq_in x1 10 && (zq_in (a1 x1.toNatClampNeg) 10 && (zq_in x3 8 && (zq_in ((a8 (a1 x1.toNatClampNeg).toNatClampNeg) + (a6 x3.toNatClampNeg)) 96 && (zq_in x3 8 && zq_fu a13 x3.toNatClampNeg (vp_nar .byte (a11 ((a8 (a1 x1.toNatClampNeg).toNatClampNeg) + (a6 x3.toNatClampNeg)).toNatClampNeg)) (fun a13_13 => zq_fc (x3 + 1) (fun x3_14 => bJ8 x3_14 a1 a2 a3 a4 a5 a6 a7 a8 a9 a10 a11 a12 a13_13 a14))))))) else (zq_in x3 8 && zq_fu a13 x3.toNatClampNeg x1.toInt8.toInt32 (fun a13_16 => zq_fc (x3 + 1) (fun x3_17 => bJ8 x3_17 a1 a2 a3 a4 a5 a6 a7 a8 a9 a10 a11 a12 a13_16 a14))))
theorem zs_fillRow_40 {bpost : St2 → Bool} {post : St2 → Prop} {bJ8 : Int32 → (Nat → Int32) → (Nat → Int32) → (Nat → Int32) → (Nat → Int32) → (Nat → Int32) → (Nat → Int32) → (Nat → Int32) → (Nat → Int32) → (Nat → Int32) → (Nat → Int32) → (Nat → Int32) → (Nat → Int32) → (Nat → Int32) → (Nat → Int32) → Bool} {J8 : Int32 → (Nat → Int32) → (Nat → Int32) → (Nat → Int32) → (Nat → Int32) → (Nat → Int32) → (Nat → Int32) → (Nat → Int32) → (Nat → Int32) → (Nat → Int32) → (Nat → Int32) → (Nat → Int32) → (Nat → Int32) → (Nat → Int32) → (Nat → Int32) → Prop} {x1 : Int32} {x2 : Int32} {x3 : Int32} {z0 : Int32} {f0_count : Int32} {f0_built : Int32} {f0_lineLength : Int32} {f0_colourCount : Int32} {a1 : Nat → Int32} {a2 : Nat → Int32} {a3 : Nat → Int32} {a4 : Nat → Int32} {a5 : Nat → Int32} {a6 : Nat → Int32} {a7 : Nat → Int32} {a8 : Nat → Int32} {a9 : Nat → Int32} {a10 : Nat → Int32} {a11 : Nat → Int32} {a12 : Nat → Int32} {a13 : Nat → Int32} {a14 : Nat → Int32} (h : zb_fillRow_40 bpost bJ8 x1 x2 x3 z0 f0_count f0_built f0_lineLength f0_colourCount a1 a2 a3 a4 a5 a6 a7 a8 a9 a10 a11 a12 a13 a14 = true) (hpost : ∀ y0, bpost y0 = true → post y0) (hJ8 : ∀ y0 y1 y2 y3 y4 y5 y6 y7 y8 y9 y10 y11 y12 y13 y14, bJ8 y0 y1 y2 y3 y4 y5 y6 y7 y8 y9 y10 y11 y12 y13 y14 = true → J8 y0 y1 y2 y3 y4 y5 y6 y7 y8 y9 y10 y11 y12 y13 y14) : wX_fillRow_40 post J8 x1 x2 x3 z0 f0_count f0_built f0_lineLength f0_colourCount a1 a2 a3 a4 a5 a6 a7 a8 a9 a10 a11 a12 a13 a14 := by
  exact zq_br h (fun _ h => zq_vi h (fun h => zq_vi h (fun h => zq_vi h (fun h => zq_vi h (fun h => zq_vi h (fun h => zq_na h (fun a13_13 h => zq_nm h (fun x3_14 h => hJ8 _ _ _ _ _ _ _ _ _ _ _ _ _ _ _ h)))))))) (fun _ h => zq_vi h (fun h => zq_na h (fun a13_16 h => zq_nm h (fun x3_17 h => hJ8 _ _ _ _ _ _ _ _ _ _ _ _ _ _ _ h))))
def zb_fillRow_8 (bpost : St2 → Bool) (x1 : Int32) (x2 : Int32) (f0_count : Int32) (f0_built : Int32) (f0_lineLength : Int32) (f0_colourCount : Int32) : Nat → Int32 → (Nat → Int32) → (Nat → Int32) → (Nat → Int32) → (Nat → Int32) → (Nat → Int32) → (Nat → Int32) → (Nat → Int32) → (Nat → Int32) → (Nat → Int32) → (Nat → Int32) → (Nat → Int32) → (Nat → Int32) → (Nat → Int32) → (Nat → Int32) → Bool
  | 0 => fun _ _ _ _ _ _ _ _ _ _ _ _ _ _ _ => false
  | n + 1 => fun x3 a1 a2 a3 a4 a5 a6 a7 a8 a9 a10 a11 a12 a13 a14 => (if 8 ≤ x3 then bpost (f0_count, f0_built, f0_lineLength, f0_colourCount, a1, a2, a3, a4, a5, a6, a7, a8, a9, a10, a11, a12, a13, a14) else (zq_in x1 10 && (if (((a3 x1.toNatClampNeg) >>> (x3 &&& 31)) &&& 1) = 0 then zq_fc (x3 + 1) (fun x3_5 => zb_fillRow_8 bpost x1 x2 f0_count f0_built f0_lineLength f0_colourCount n x3_5 a1 a2 a3 a4 a5 a6 a7 a8 a9 a10 a11 a12 a13 a14) else (if ((x2 >>> (x3 &&& 31)) &&& 1) = 0 then zb_fillRow_40 bpost (zb_fillRow_8 bpost x1 x2 f0_count f0_built f0_lineLength f0_colourCount n) x1 x2 x3 0 f0_count f0_built f0_lineLength f0_colourCount a1 a2 a3 a4 a5 a6 a7 a8 a9 a10 a11 a12 a13 a14 else zb_fillRow_40 bpost (zb_fillRow_8 bpost x1 x2 f0_count f0_built f0_lineLength f0_colourCount n) x1 x2 x3 1 f0_count f0_built f0_lineLength f0_colourCount a1 a2 a3 a4 a5 a6 a7 a8 a9 a10 a11 a12 a13 a14))))
theorem zs_fillRow_8 {bpost : St2 → Bool} {post : St2 → Prop} {x1 : Int32} {x2 : Int32} {f0_count : Int32} {f0_built : Int32} {f0_lineLength : Int32} {f0_colourCount : Int32} : ∀ (n : Nat) {x3 : Int32} {a1 : (Nat → Int32)} {a2 : (Nat → Int32)} {a3 : (Nat → Int32)} {a4 : (Nat → Int32)} {a5 : (Nat → Int32)} {a6 : (Nat → Int32)} {a7 : (Nat → Int32)} {a8 : (Nat → Int32)} {a9 : (Nat → Int32)} {a10 : (Nat → Int32)} {a11 : (Nat → Int32)} {a12 : (Nat → Int32)} {a13 : (Nat → Int32)} {a14 : (Nat → Int32)} (h : zb_fillRow_8 bpost x1 x2 f0_count f0_built f0_lineLength f0_colourCount n x3 a1 a2 a3 a4 a5 a6 a7 a8 a9 a10 a11 a12 a13 a14 = true) (hpost : ∀ y0, bpost y0 = true → post y0), wX_fillRow_8 post x1 x2 f0_count f0_built f0_lineLength f0_colourCount n x3 a1 a2 a3 a4 a5 a6 a7 a8 a9 a10 a11 a12 a13 a14 := by
  intro n
  induction n with
  | zero => intro x3 a1 a2 a3 a4 a5 a6 a7 a8 a9 a10 a11 a12 a13 a14 h hpost; exact (Bool.false_ne_true h).elim
  | succ n ih =>
    intro x3 a1 a2 a3 a4 a5 a6 a7 a8 a9 a10 a11 a12 a13 a14 h hpost
    exact zq_br h (fun _ h => hpost _ h) (fun _ h => zq_vi h (fun h => zq_br h (fun _ h => zq_nm h (fun x3_5 h => ih h hpost)) (fun _ h => zq_br h (fun _ h => zs_fillRow_40 h hpost (fun _ _ _ _ _ _ _ _ _ _ _ _ _ _ _ h => ih h hpost)) (fun _ h => zs_fillRow_40 h hpost (fun _ _ _ _ _ _ _ _ _ _ _ _ _ _ _ h => ih h hpost)))))
def zp_fillRow (bpost : St2 → Bool) (u : St2) (p0 : Int32) : Bool := match u with
  | (f0_count, f0_built, f0_lineLength, f0_colourCount, a1, a2, a3, a4, a5, a6, a7, a8, a9, a10, a11, a12, a13, a14) => zp_own (fun r_1 => zb_fillRow_8 bpost p0 r_1 f0_count f0_built f0_lineLength f0_colourCount 12 0 a1 a2 a3 a4 a5 a6 a7 a8 a9 a10 a11 a12 a13 a14) (f0_count, f0_built, f0_lineLength, f0_colourCount, a1, a2, a3, a4, a5, a6, a7, a8, a9, a10, a11, a12, a13, a14) p0
theorem zt_fillRow {bpost : St2 → Bool} {post : St2 → Prop} {u : St2} {p0 : Int32} (h : zp_fillRow bpost u p0 = true) (hpost : ∀ y0, bpost y0 = true → post y0) : wpX_fillRow post u p0 := by
  obtain ⟨f0_count, f0_built, f0_lineLength, f0_colourCount, a1, a2, a3, a4, a5, a6, a7, a8, a9, a10, a11, a12, a13, a14⟩ := u
  unfold zp_fillRow at h
  unfold wpX_fillRow
  exact zt_own h (fun r_1 h => Exists.intro 12 (zs_fillRow_8 12 h hpost))
def zb_fits_2 (bpost : Int32 → Bool) (x1 : Int32) (x2 : Int32) (f0_count : Int32) (f0_built : Int32) (f0_lineLength : Int32) (f0_colourCount : Int32) (a1 : Nat → Int32) (a2 : Nat → Int32) (a3 : Nat → Int32) (a4 : Nat → Int32) (a5 : Nat → Int32) (a6 : Nat → Int32) (a7 : Nat → Int32) (a8 : Nat → Int32) (a9 : Nat → Int32) (a10 : Nat → Int32) (a11 : Nat → Int32) (a12 : Nat → Int32) (a13 : Nat → Int32) (a14 : Nat → Int32) : Nat → Int32 → Bool
  | 0 => fun _ => false
  | n + 1 => fun x3 => (if 8 ≤ x3 then bpost 1 else (zq_in x1 10 && (if (((a3 x1.toNatClampNeg) >>> (x3 &&& 31)) &&& 1) = 0 then zq_fc (x3 + 1) (fun x3_4 => zb_fits_2 bpost x1 x2 f0_count f0_built f0_lineLength f0_colourCount a1 a2 a3 a4 a5 a6 a7 a8 a9 a10 a11 a12 a13 a14 n x3_4) else (zq_in x3 8 && (zq_in (x2 + (a6 x3.toNatClampNeg)) 96 && (if (a9 (x2 + (a6 x3.toNatClampNeg)).toNatClampNeg) < 0 then zq_fc (x3 + 1) (fun x3_8 => zb_fits_2 bpost x1 x2 f0_count f0_built f0_lineLength f0_colourCount a1 a2 a3 a4 a5 a6 a7 a8 a9 a10 a11 a12 a13 a14 n x3_8) else bpost 0))))))
theorem zs_fits_2 {bpost : Int32 → Bool} {post : Int32 → Prop} {x1 : Int32} {x2 : Int32} {f0_count : Int32} {f0_built : Int32} {f0_lineLength : Int32} {f0_colourCount : Int32} {a1 : Nat → Int32} {a2 : Nat → Int32} {a3 : Nat → Int32} {a4 : Nat → Int32} {a5 : Nat → Int32} {a6 : Nat → Int32} {a7 : Nat → Int32} {a8 : Nat → Int32} {a9 : Nat → Int32} {a10 : Nat → Int32} {a11 : Nat → Int32} {a12 : Nat → Int32} {a13 : Nat → Int32} {a14 : Nat → Int32} : ∀ (n : Nat) {x3 : Int32} (h : zb_fits_2 bpost x1 x2 f0_count f0_built f0_lineLength f0_colourCount a1 a2 a3 a4 a5 a6 a7 a8 a9 a10 a11 a12 a13 a14 n x3 = true) (hpost : ∀ y0, bpost y0 = true → post y0), wX_fits_2 post x1 x2 f0_count f0_built f0_lineLength f0_colourCount a1 a2 a3 a4 a5 a6 a7 a8 a9 a10 a11 a12 a13 a14 n x3 := by
  intro n
  induction n with
  | zero => intro x3 h hpost; exact (Bool.false_ne_true h).elim
  | succ n ih =>
    intro x3 h hpost
    exact zq_br h (fun _ h => hpost _ h) (fun _ h => zq_vi h (fun h => zq_br h (fun _ h => zq_nm h (fun x3_4 h => ih h hpost)) (fun _ h => zq_vi h (fun h => zq_vi h (fun h => zq_br h (fun _ h => zq_nm h (fun x3_8 h => ih h hpost)) (fun _ h => hpost _ h))))))
def zp_fits (bpost : Int32 → Bool) (u : St2) (p0 : Int32) (p1 : Int32) : Bool := match u with
  | (f0_count, f0_built, f0_lineLength, f0_colourCount, a1, a2, a3, a4, a5, a6, a7, a8, a9, a10, a11, a12, a13, a14) => zb_fits_2 bpost p0 p1 f0_count f0_built f0_lineLength f0_colourCount a1 a2 a3 a4 a5 a6 a7 a8 a9 a10 a11 a12 a13 a14 12 0
theorem zt_fits {bpost : Int32 → Bool} {post : Int32 → Prop} {u : St2} {p0 : Int32} {p1 : Int32} (h : zp_fits bpost u p0 p1 = true) (hpost : ∀ y0, bpost y0 = true → post y0) : wpX_fits post u p0 p1 := by
  obtain ⟨f0_count, f0_built, f0_lineLength, f0_colourCount, a1, a2, a3, a4, a5, a6, a7, a8, a9, a10, a11, a12, a13, a14⟩ := u
  exact Exists.intro 12 (zs_fits_2 12 h hpost)
def zb_pack_43 (bpost : St2 → Bool) (x1 : Int32) (x2 : Int32) (f0_count : Int32) (f0_built : Int32) (f0_lineLength : Int32) (f0_colourCount : Int32) : Nat → Int32 → (Nat → Int32) → (Nat → Int32) → (Nat → Int32) → (Nat → Int32) → (Nat → Int32) → (Nat → Int32) → (Nat → Int32) → (Nat → Int32) → (Nat → Int32) → (Nat → Int32) → (Nat → Int32) → (Nat → Int32) → (Nat → Int32) → (Nat → Int32) → Bool
  | 0 => fun _ _ _ _ _ _ _ _ _ _ _ _ _ _ _ => false
  | n + 1 => fun x3 am21 am22 am23 am24 am25 am26 am27 am28 am29 am210 am211 am212 am213 am214 => (if 8 ≤ x3 then bpost (f0_count, f0_built, f0_lineLength, f0_colourCount, am21, am22, am23, am24, am25, am26, am27, am28, am29, am210, am211, am212, am213, am214) else (zq_in x1 10 && (if (((am23 x1.toNatClampNeg) >>> (x3 &&& 31)) &&& 1) = 0 then zq_fc (x3 + 1) (fun x3_54 => zb_pack_43 bpost x1 x2 f0_count f0_built f0_lineLength f0_colourCount n x3_54 am21 am22 am23 am24 am25 am26 am27 am28 am29 am210 am211 am212 am213 am214) else (zq_in x3 8 && zq_fc (x2 + (am26 x3.toNatClampNeg)) (fun x4_56 => (zq_in x3 8 && zq_fc (am213 x3.toNatClampNeg) (fun x5_58 => (zq_in x4_56 96 && zq_fu am29 x4_56.toNatClampNeg x1.toInt8.toInt32 (fun am29_60 => (zq_in x4_56 96 && zq_fu am210 x4_56.toNatClampNeg x3.toInt8.toInt32 (fun am210_62 => (zq_in x4_56 96 && zq_fu am211 x4_56.toNatClampNeg x5_58.toInt8.toInt32 (fun am211_64 => (zq_in ((x5_58 * 8) + x3) 80 && (zq_in x4_56 96 && zq_fu am212 x4_56.toNatClampNeg (vp_nar .short (am22 ((x5_58 * 8) + x3).toNatClampNeg)) (fun am212_67 => zq_fc (x3 + 1) (fun x3_68 => zb_pack_43 bpost x1 x2 f0_count f0_built f0_lineLength f0_colourCount n x3_68 am21 am22 am23 am24 am25 am26 am27 am28 am29_60 am210_62 am211_64 am212_67 am213 am214)))))))))))))))))
theorem zs_pack_43 {bpost : St2 → Bool} {post : St2 → Prop} {x1 : Int32} {x2 : Int32} {f0_count : Int32} {f0_built : Int32} {f0_lineLength : Int32} {f0_colourCount : Int32} : ∀ (n : Nat) {x3 : Int32} {am21 : (Nat → Int32)} {am22 : (Nat → Int32)} {am23 : (Nat → Int32)} {am24 : (Nat → Int32)} {am25 : (Nat → Int32)} {am26 : (Nat → Int32)} {am27 : (Nat → Int32)} {am28 : (Nat → Int32)} {am29 : (Nat → Int32)} {am210 : (Nat → Int32)} {am211 : (Nat → Int32)} {am212 : (Nat → Int32)} {am213 : (Nat → Int32)} {am214 : (Nat → Int32)} (h : zb_pack_43 bpost x1 x2 f0_count f0_built f0_lineLength f0_colourCount n x3 am21 am22 am23 am24 am25 am26 am27 am28 am29 am210 am211 am212 am213 am214 = true) (hpost : ∀ y0, bpost y0 = true → post y0), wX_pack_43 post x1 x2 f0_count f0_built f0_lineLength f0_colourCount n x3 am21 am22 am23 am24 am25 am26 am27 am28 am29 am210 am211 am212 am213 am214 := by
  intro n
  induction n with
  | zero => intro x3 am21 am22 am23 am24 am25 am26 am27 am28 am29 am210 am211 am212 am213 am214 h hpost; exact (Bool.false_ne_true h).elim
  | succ n ih =>
    intro x3 am21 am22 am23 am24 am25 am26 am27 am28 am29 am210 am211 am212 am213 am214 h hpost
    exact zq_br h (fun _ h => hpost _ h) (fun _ h => zq_vi h (fun h => zq_br h (fun _ h => zq_nm h (fun x3_54 h => ih h hpost)) (fun _ h => zq_vi h (fun h => zq_nm h (fun x4_56 h => zq_vi h (fun h => zq_nm h (fun x5_58 h => zq_vi h (fun h => zq_na h (fun am29_60 h => zq_vi h (fun h => zq_na h (fun am210_62 h => zq_vi h (fun h => zq_na h (fun am211_64 h => zq_vi h (fun h => zq_vi h (fun h => zq_na h (fun am212_67 h => zq_nm h (fun x3_68 h => ih h hpost)))))))))))))))))
def zb_pack_33 (bpost : St2 → Bool) (x1 : Int32) (x2 : Int32) (f0_count : Int32) (f0_built : Int32) (f0_lineLength : Int32) (f0_colourCount : Int32) (am21 : Nat → Int32) (am22 : Nat → Int32) (am23 : Nat → Int32) (am24 : Nat → Int32) (am25 : Nat → Int32) (am26 : Nat → Int32) (am27 : Nat → Int32) (am28 : Nat → Int32) (am29 : Nat → Int32) (am210 : Nat → Int32) (am211 : Nat → Int32) (am212 : Nat → Int32) (am213 : Nat → Int32) (am214 : Nat → Int32) : Bool := (zq_in x1 10 && zq_fu am28 x1.toNatClampNeg x2.toInt8.toInt32 (fun am28_50 => zb_pack_43 bpost x1 x2 f0_count f0_built f0_lineLength f0_colourCount 12 0 am21 am22 am23 am24 am25 am26 am27 am28_50 am29 am210 am211 am212 am213 am214))
theorem zs_pack_33 {bpost : St2 → Bool} {post : St2 → Prop} {x1 : Int32} {x2 : Int32} {f0_count : Int32} {f0_built : Int32} {f0_lineLength : Int32} {f0_colourCount : Int32} {am21 : Nat → Int32} {am22 : Nat → Int32} {am23 : Nat → Int32} {am24 : Nat → Int32} {am25 : Nat → Int32} {am26 : Nat → Int32} {am27 : Nat → Int32} {am28 : Nat → Int32} {am29 : Nat → Int32} {am210 : Nat → Int32} {am211 : Nat → Int32} {am212 : Nat → Int32} {am213 : Nat → Int32} {am214 : Nat → Int32} (h : zb_pack_33 bpost x1 x2 f0_count f0_built f0_lineLength f0_colourCount am21 am22 am23 am24 am25 am26 am27 am28 am29 am210 am211 am212 am213 am214 = true) (hpost : ∀ y0, bpost y0 = true → post y0) : wX_pack_33 post x1 x2 f0_count f0_built f0_lineLength f0_colourCount am21 am22 am23 am24 am25 am26 am27 am28 am29 am210 am211 am212 am213 am214 := by
  exact zq_vi h (fun h => zq_na h (fun am28_50 h => Exists.intro 12 (zs_pack_43 12 h hpost)))
def zb_pack_9 (bpost : St2 → Bool) (x1 : Int32) (f0_count : Int32) (f0_built : Int32) (f0_lineLength : Int32) (f0_colourCount : Int32) (am21 : Nat → Int32) (am22 : Nat → Int32) (am23 : Nat → Int32) (am24 : Nat → Int32) (am25 : Nat → Int32) (am26 : Nat → Int32) (am27 : Nat → Int32) (am28 : Nat → Int32) (am29 : Nat → Int32) (am210 : Nat → Int32) (am211 : Nat → Int32) (am212 : Nat → Int32) (am213 : Nat → Int32) (am214 : Nat → Int32) : Nat → Int32 → Int32 → Bool
  | 0 => fun _ _ => false
  | n + 1 => fun x2 x3 => (if 88 ≤ x3 then zb_pack_33 bpost x1 x2 f0_count f0_built f0_lineLength f0_colourCount am21 am22 am23 am24 am25 am26 am27 am28 am29 am210 am211 am212 am213 am214 else zp_fits (fun r_69 => (if r_69 = 0 then zq_fc (x2 + 1) (fun x2_71 => zq_fc (x3 + 1) (fun x3_72 => zb_pack_9 bpost x1 f0_count f0_built f0_lineLength f0_colourCount am21 am22 am23 am24 am25 am26 am27 am28 am29 am210 am211 am212 am213 am214 n x2_71 x3_72)) else zb_pack_33 bpost x1 x2 f0_count f0_built f0_lineLength f0_colourCount am21 am22 am23 am24 am25 am26 am27 am28 am29 am210 am211 am212 am213 am214)) (f0_count, f0_built, f0_lineLength, f0_colourCount, am21, am22, am23, am24, am25, am26, am27, am28, am29, am210, am211, am212, am213, am214) x1 x2)
theorem zs_pack_9 {bpost : St2 → Bool} {post : St2 → Prop} {x1 : Int32} {f0_count : Int32} {f0_built : Int32} {f0_lineLength : Int32} {f0_colourCount : Int32} {am21 : Nat → Int32} {am22 : Nat → Int32} {am23 : Nat → Int32} {am24 : Nat → Int32} {am25 : Nat → Int32} {am26 : Nat → Int32} {am27 : Nat → Int32} {am28 : Nat → Int32} {am29 : Nat → Int32} {am210 : Nat → Int32} {am211 : Nat → Int32} {am212 : Nat → Int32} {am213 : Nat → Int32} {am214 : Nat → Int32} : ∀ (n : Nat) {x2 : Int32} {x3 : Int32} (h : zb_pack_9 bpost x1 f0_count f0_built f0_lineLength f0_colourCount am21 am22 am23 am24 am25 am26 am27 am28 am29 am210 am211 am212 am213 am214 n x2 x3 = true) (hpost : ∀ y0, bpost y0 = true → post y0), wX_pack_9 post x1 f0_count f0_built f0_lineLength f0_colourCount am21 am22 am23 am24 am25 am26 am27 am28 am29 am210 am211 am212 am213 am214 n x2 x3 := by
  intro n
  induction n with
  | zero => intro x2 x3 h hpost; exact (Bool.false_ne_true h).elim
  | succ n ih =>
    intro x2 x3 h hpost
    exact zq_br h (fun _ h => zs_pack_33 h hpost) (fun _ h => zt_fits h (fun r_69 h => zq_br h (fun _ h => zq_nm h (fun x2_71 h => zq_nm h (fun x3_72 h => ih h hpost))) (fun _ h => zs_pack_33 h hpost)))
def zp_pack (bpost : St2 → Bool) (u : St2) (p0 : Int32) : Bool := match u with
  | (f0_count, f0_built, f0_lineLength, f0_colourCount, a1, a2, a3, a4, a5, a6, a7, a8, a9, a10, a11, a12, a13, a14) => zp_fillRow (fun u => match u with | (f0_count_2, f0_built_3, f0_lineLength_4, f0_colourCount_5, am21_8, am22_11, am23_14, am24_17, am25_20, am26_23, am27_26, am28_29, am29_32, am210_35, am211_38, am212_41, am213_44, am214_47) => zb_pack_9 bpost p0 f0_count_2 f0_built_3 f0_lineLength_4 f0_colourCount_5 am21_8 am22_11 am23_14 am24_17 am25_20 am26_23 am27_26 am28_29 am29_32 am210_35 am211_38 am212_41 am213_44 am214_47 12 0 0) (f0_count, f0_built, f0_lineLength, f0_colourCount, a1, a2, a3, a4, a5, a6, a7, a8, a9, a10, a11, a12, a13, a14) p0
theorem zt_pack {bpost : St2 → Bool} {post : St2 → Prop} {u : St2} {p0 : Int32} (h : zp_pack bpost u p0 = true) (hpost : ∀ y0, bpost y0 = true → post y0) : wpX_pack post u p0 := by
  obtain ⟨f0_count, f0_built, f0_lineLength, f0_colourCount, a1, a2, a3, a4, a5, a6, a7, a8, a9, a10, a11, a12, a13, a14⟩ := u
  unfold zp_pack at h
  unfold wpX_pack
  exact zt_fillRow h (fun u h => by obtain ⟨f0_count_2, f0_built_3, f0_lineLength_4, f0_colourCount_5, am21_8, am22_11, am23_14, am24_17, am25_20, am26_23, am27_26, am28_29, am29_32, am210_35, am211_38, am212_41, am213_44, am214_47⟩ := u; exact Exists.intro 12 (zs_pack_9 12 h hpost))
def zb_build_52 (bpost : St2 → Bool) : Nat → Int32 → Int32 → Int32 → Int32 → Int32 → (Nat → Int32) → (Nat → Int32) → (Nat → Int32) → (Nat → Int32) → (Nat → Int32) → (Nat → Int32) → (Nat → Int32) → (Nat → Int32) → (Nat → Int32) → (Nat → Int32) → (Nat → Int32) → (Nat → Int32) → (Nat → Int32) → (Nat → Int32) → Bool
  | 0 => fun _ _ _ _ _ _ _ _ _ _ _ _ _ _ _ _ _ _ _ => false
  | n + 1 => fun x1 f0_count f0_built f0_lineLength f0_colourCount am261 am262 am263 am264 am265 am266 am267 am268 am269 am2610 am2611 am2612 am2613 am2614 => (if f0_count ≤ x1 then bpost (f0_count, f0_built, f0_lineLength, f0_colourCount, am261, am262, am263, am264, am265, am266, am267, am268, am269, am2610, am2611, am2612, am2613, am2614) else (zq_in x1 10 && zq_fc (am2614 x1.toNatClampNeg) (fun v_1 => zp_pack (fun u => match u with | (f0_count_194, f0_built_195, f0_lineLength_196, f0_colourCount_197, am671_200, am672_203, am673_206, am674_209, am675_212, am676_215, am677_218, am678_221, am679_224, am6710_227, am6711_230, am6712_233, am6713_236, am6714_239) => zq_fc (x1 + 1) (fun x1_240 => zb_build_52 bpost n x1_240 f0_count_194 f0_built_195 f0_lineLength_196 f0_colourCount_197 am671_200 am672_203 am673_206 am674_209 am675_212 am676_215 am677_218 am678_221 am679_224 am6710_227 am6711_230 am6712_233 am6713_236 am6714_239)) (f0_count, f0_built, f0_lineLength, f0_colourCount, am261, am262, am263, am264, am265, am266, am267, am268, am269, am2610, am2611, am2612, am2613, am2614) v_1)))
theorem zs_build_52 {bpost : St2 → Bool} {post : St2 → Prop} : ∀ (n : Nat) {x1 : Int32} {f0_count : Int32} {f0_built : Int32} {f0_lineLength : Int32} {f0_colourCount : Int32} {am261 : (Nat → Int32)} {am262 : (Nat → Int32)} {am263 : (Nat → Int32)} {am264 : (Nat → Int32)} {am265 : (Nat → Int32)} {am266 : (Nat → Int32)} {am267 : (Nat → Int32)} {am268 : (Nat → Int32)} {am269 : (Nat → Int32)} {am2610 : (Nat → Int32)} {am2611 : (Nat → Int32)} {am2612 : (Nat → Int32)} {am2613 : (Nat → Int32)} {am2614 : (Nat → Int32)} (h : zb_build_52 bpost n x1 f0_count f0_built f0_lineLength f0_colourCount am261 am262 am263 am264 am265 am266 am267 am268 am269 am2610 am2611 am2612 am2613 am2614 = true) (hpost : ∀ y0, bpost y0 = true → post y0), wX_build_52 post n x1 f0_count f0_built f0_lineLength f0_colourCount am261 am262 am263 am264 am265 am266 am267 am268 am269 am2610 am2611 am2612 am2613 am2614 := by
  intro n
  induction n with
  | zero => intro x1 f0_count f0_built f0_lineLength f0_colourCount am261 am262 am263 am264 am265 am266 am267 am268 am269 am2610 am2611 am2612 am2613 am2614 h hpost; exact (Bool.false_ne_true h).elim
  | succ n ih =>
    intro x1 f0_count f0_built f0_lineLength f0_colourCount am261 am262 am263 am264 am265 am266 am267 am268 am269 am2610 am2611 am2612 am2613 am2614 h hpost
    exact zq_br h (fun _ h => hpost _ h) (fun _ h => zq_vi h (fun h => zq_gg h (fun h => zt_pack h (fun u h => by obtain ⟨f0_count_194, f0_built_195, f0_lineLength_196, f0_colourCount_197, am671_200, am672_203, am673_206, am674_209, am675_212, am676_215, am677_218, am678_221, am679_224, am6710_227, am6711_230, am6712_233, am6713_236, am6714_239⟩ := u; exact zq_nm h (fun x1_240 h => ih h hpost)))))
end
section
/-! the loop that fills entryClass with -1, by hand -/
def zq_m1 (a : Nat → Int32) : Nat → Int32 := fun j => if j < 96 then -1 else a j
def zb_build_31 (bpost : St2 → Bool) (f0_count : Int32) (f0_built : Int32) (f0_lineLength : Int32) (f0_colourCount : Int32) (n : Nat) (x1 : Int32) (a1 a2 a3 a4 a5 a6 a7 a8 a9 a10 a11 a12 a13 a14 : Nat → Int32) : Bool :=
  if n = 100 ∧ x1 = 0 then zb_build_52 bpost 12 0 f0_count f0_built f0_lineLength f0_colourCount a1 a2 a3 a4 a5 a6 a7 a8 (zq_m1 a9) a10 a11 a12 a13 a14 else false
def zq_mi (i : Nat) (a : Nat → Int32) : Nat → Int32 := fun j => if j < i then -1 else a j
theorem zq_mi_s (i : Nat) (a : Nat → Int32) : upd (zq_mi i a) i (-1) = zq_mi (i + 1) a := by
  funext j
  unfold upd zq_mi
  by_cases h : j = i
  · rw [if_pos h, if_pos (by omega)]
  · rw [if_neg h]
    by_cases h2 : j < i
    · rw [if_pos h2, if_pos (by omega)]
    · rw [if_neg h2, if_neg (by omega)]
theorem zq_fill {post : St2 → Prop} {f0_count f0_built f0_lineLength f0_colourCount : Int32} {a1 a2 a3 a4 a5 a6 a7 a8 a9 a10 a11 a12 a13 a14 : Nat → Int32} (H : ∃ fu, wX_build_52 post fu 0 f0_count f0_built f0_lineLength f0_colourCount a1 a2 a3 a4 a5 a6 a7 a8 (zq_m1 a9) a10 a11 a12 a13 a14) : ∀ n i, i ≤ 96 → 96 - i < n → wX_build_31 post f0_count f0_built f0_lineLength f0_colourCount n (nI i) a1 a2 a3 a4 a5 a6 a7 a8 (zq_mi i a9) a10 a11 a12 a13 a14 := by
  intro n
  induction n with
  | zero => intro i _ h; omega
  | succ n ih =>
    intro i hi hn
    by_cases h : i = 96
    · subst h
      exact br_t (by decide) H
    · have hlt : i < 96 := by omega
      refine br_f (nI_ge (b := 96) hlt (by decide)) ⟨vp_in_nI hlt (by decide), nm_r (e' := zq_mi (i + 1) a9) ?_ (nm_r (nI_1 i) (ih (i + 1) (by omega) (by omega)))⟩
      rw [nI_clamp (by omega)]
      exact zq_mi_s i a9
theorem zs_build_31 {bpost : St2 → Bool} {post : St2 → Prop} {f0_count : Int32} {f0_built : Int32} {f0_lineLength : Int32} {f0_colourCount : Int32} (n : Nat) {x1 : Int32} {a1 a2 a3 a4 a5 a6 a7 a8 a9 a10 a11 a12 a13 a14 : Nat → Int32} (h : zb_build_31 bpost f0_count f0_built f0_lineLength f0_colourCount n x1 a1 a2 a3 a4 a5 a6 a7 a8 a9 a10 a11 a12 a13 a14 = true) (hpost : ∀ y0, bpost y0 = true → post y0) : wX_build_31 post f0_count f0_built f0_lineLength f0_colourCount n x1 a1 a2 a3 a4 a5 a6 a7 a8 a9 a10 a11 a12 a13 a14 := by
  unfold zb_build_31 at h
  by_cases hc : n = 100 ∧ x1 = 0
  · rw [if_pos hc] at h
    obtain ⟨rfl, rfl⟩ := hc
    have e : zq_mi 0 a9 = a9 := by
      funext j
      exact if_neg (Nat.not_lt_zero j)
    have k := zq_fill (post := post) (f0_count := f0_count) (f0_built := f0_built) (f0_lineLength := f0_lineLength) (f0_colourCount := f0_colourCount) (a1 := a1) (a2 := a2) (a3 := a3) (a4 := a4) (a5 := a5) (a6 := a6) (a7 := a7) (a8 := a8) (a9 := a9) (a10 := a10) (a11 := a11) (a12 := a12) (a13 := a13) (a14 := a14) ⟨12, zs_build_52 12 h hpost⟩ 100 0 (by omega) (by omega)
    rw [e] at k
    exact k
  · rw [if_neg hc] at h
    exact (Bool.false_ne_true h).elim
end
section
def zp_build (bpost : St2 → Bool) (u : St2) : Bool := match u with
  | (f0_count, f0_built, f0_lineLength, f0_colourCount, a1, a2, a3, a4, a5, a6, a7, a8, a9, a10, a11, a12, a13, a14) => (if f0_built = 0 then zp_sortDown (fun u => match u with | (f0_count_3, f0_built_4, f0_lineLength_5, f0_colourCount_6, am141_9, am142_12, am143_15, am144_18, am145_21, am146_24, am147_27, am148_30, am149_33, am1410_36, am1411_39, am1412_42, am1413_45, am1414_48) => zp_learn (fun u => match u with | (f0_count_50, f0_built_51, f0_lineLength_52, f0_colourCount_53, am181_56, am182_59, am183_62, am184_65, am185_68, am186_71, am187_74, am188_77, am189_80, am1810_83, am1811_86, am1812_89, am1813_92, am1814_95) => zp_meet (fun u => match u with | (f0_count_97, f0_built_98, f0_lineLength_99, f0_colourCount_100, am221_103, am222_106, am223_109, am224_112, am225_115, am226_118, am227_121, am228_124, am229_127, am2210_130, am2211_133, am2212_136, am2213_139, am2214_142) => zp_paint (fun u => match u with | (f0_count_144, f0_built_145, f0_lineLength_146, f0_colourCount_147, am261_150, am262_153, am263_156, am264_159, am265_162, am266_165, am267_168, am268_171, am269_174, am2610_177, am2611_180, am2612_183, am2613_186, am2614_189) => zb_build_31 bpost f0_count_144 f0_built_145 f0_lineLength_146 f0_colourCount_147 100 0 am261_150 am262_153 am263_156 am264_159 am265_162 am266_165 am267_168 am268_171 am269_174 am2610_177 am2611_180 am2612_183 am2613_186 am2614_189) (f0_count_97, f0_built_98, f0_lineLength_99, f0_colourCount_100, am221_103, am222_106, am223_109, am224_112, am225_115, am226_118, am227_121, am228_124, am229_127, am2210_130, am2211_133, am2212_136, am2213_139, am2214_142)) (f0_count_50, f0_built_51, f0_lineLength_52, f0_colourCount_53, am181_56, am182_59, am183_62, am184_65, am185_68, am186_71, am187_74, am188_77, am189_80, am1810_83, am1811_86, am1812_89, am1813_92, am1814_95)) (f0_count_3, f0_built_4, f0_lineLength_5, f0_colourCount_6, am141_9, am142_12, am143_15, am144_18, am145_21, am146_24, am147_27, am148_30, am149_33, am1410_36, am1411_39, am1412_42, am1413_45, am1414_48)) (f0_count, 1, f0_lineLength, f0_colourCount, a1, a2, a3, a4, a5, a6, a7, a8, a9, a10, a11, a12, a13, a14) else bpost (f0_count, f0_built, f0_lineLength, f0_colourCount, a1, a2, a3, a4, a5, a6, a7, a8, a9, a10, a11, a12, a13, a14))
theorem zt_build {bpost : St2 → Bool} {post : St2 → Prop} {u : St2} (h : zp_build bpost u = true) (hpost : ∀ y0, bpost y0 = true → post y0) : wpX_build post u := by
  obtain ⟨f0_count, f0_built, f0_lineLength, f0_colourCount, a1, a2, a3, a4, a5, a6, a7, a8, a9, a10, a11, a12, a13, a14⟩ := u
  exact zq_br h (fun _ h => zt_sortDown h (fun u h => by obtain ⟨f0_count_3, f0_built_4, f0_lineLength_5, f0_colourCount_6, am141_9, am142_12, am143_15, am144_18, am145_21, am146_24, am147_27, am148_30, am149_33, am1410_36, am1411_39, am1412_42, am1413_45, am1414_48⟩ := u; exact zt_learn h (fun u h => by obtain ⟨f0_count_50, f0_built_51, f0_lineLength_52, f0_colourCount_53, am181_56, am182_59, am183_62, am184_65, am185_68, am186_71, am187_74, am188_77, am189_80, am1810_83, am1811_86, am1812_89, am1813_92, am1814_95⟩ := u; exact zt_meet h (fun u h => by obtain ⟨f0_count_97, f0_built_98, f0_lineLength_99, f0_colourCount_100, am221_103, am222_106, am223_109, am224_112, am225_115, am226_118, am227_121, am228_124, am229_127, am2210_130, am2211_133, am2212_136, am2213_139, am2214_142⟩ := u; exact zt_paint h (fun u h => by obtain ⟨f0_count_144, f0_built_145, f0_lineLength_146, f0_colourCount_147, am261_150, am262_153, am263_156, am264_159, am265_162, am266_165, am267_168, am268_171, am269_174, am2610_177, am2611_180, am2612_183, am2613_186, am2614_189⟩ := u; exact Exists.intro 100 (zs_build_31 100 h hpost)))))) (fun _ h => hpost _ h)
def zp_entry (bpost : Int32 → St2 → Bool) (u : St2) (p0 : Int32) (p1 : Int32) : Bool := match u with
  | (f0_count, f0_built, f0_lineLength, f0_colourCount, a1, a2, a3, a4, a5, a6, a7, a8, a9, a10, a11, a12, a13, a14) => zp_isClass (fun r_1 => (if r_1 = 0 then bpost (- 1) (f0_count, f0_built, f0_lineLength, f0_colourCount, a1, a2, a3, a4, a5, a6, a7, a8, a9, a10, a11, a12, a13, a14) else zp_isSelector (fun r_3 => (if r_3 = 0 then bpost (- 1) (f0_count, f0_built, f0_lineLength, f0_colourCount, a1, a2, a3, a4, a5, a6, a7, a8, a9, a10, a11, a12, a13, a14) else zp_build (fun u => match u with | (f0_count_6, f0_built_7, f0_lineLength_8, f0_colourCount_9, am181_12, am182_15, am183_18, am184_21, am185_24, am186_27, am187_30, am188_33, am189_36, am1810_39, am1811_42, am1812_45, am1813_48, am1814_51) => (zq_in p0 10 && (zq_in p1 8 && zq_fc ((am188_33 p0.toNatClampNeg) + (am186_27 p1.toNatClampNeg)) (fun x3_54 => (zq_in x3_54 96 && (if (am189_36 x3_54.toNatClampNeg) = p0 then (zq_in x3_54 96 && (if (am1810_39 x3_54.toNatClampNeg) = p1 then bpost x3_54 (f0_count_6, f0_built_7, f0_lineLength_8, f0_colourCount_9, am181_12, am182_15, am183_18, am184_21, am185_24, am186_27, am187_30, am188_33, am189_36, am1810_39, am1811_42, am1812_45, am1813_48, am1814_51) else bpost (- 1) (f0_count_6, f0_built_7, f0_lineLength_8, f0_colourCount_9, am181_12, am182_15, am183_18, am184_21, am185_24, am186_27, am187_30, am188_33, am189_36, am1810_39, am1811_42, am1812_45, am1813_48, am1814_51))) else bpost (- 1) (f0_count_6, f0_built_7, f0_lineLength_8, f0_colourCount_9, am181_12, am182_15, am183_18, am184_21, am185_24, am186_27, am187_30, am188_33, am189_36, am1810_39, am1811_42, am1812_45, am1813_48, am1814_51))))))) (f0_count, f0_built, f0_lineLength, f0_colourCount, a1, a2, a3, a4, a5, a6, a7, a8, a9, a10, a11, a12, a13, a14))) () p1)) (f0_count, f0_built, f0_lineLength, f0_colourCount, a1, a2, a3, a4, a5, a6, a7, a8, a9, a10, a11, a12, a13, a14) p0
theorem zt_entry {bpost : Int32 → St2 → Bool} {post : Int32 → St2 → Prop} {u : St2} {p0 : Int32} {p1 : Int32} (h : zp_entry bpost u p0 p1 = true) (hpost : ∀ y0 y1, bpost y0 y1 = true → post y0 y1) : wpX_entry post u p0 p1 := by
  obtain ⟨f0_count, f0_built, f0_lineLength, f0_colourCount, a1, a2, a3, a4, a5, a6, a7, a8, a9, a10, a11, a12, a13, a14⟩ := u
  unfold zp_entry at h
  unfold wpX_entry
  exact zt_isClass h (fun r_1 h => zq_br h (fun _ h => hpost _ _ h) (fun _ h => zt_isSelector h (fun r_3 h => zq_br h (fun _ h => hpost _ _ h) (fun _ h => zt_build h (fun u h => by obtain ⟨f0_count_6, f0_built_7, f0_lineLength_8, f0_colourCount_9, am181_12, am182_15, am183_18, am184_21, am185_24, am186_27, am187_30, am188_33, am189_36, am1810_39, am1811_42, am1812_45, am1813_48, am1814_51⟩ := u; exact zq_vi h (fun h => zq_vi h (fun h => zq_nm h (fun x3_54 h => zq_vi h (fun h => zq_br h (fun _ h => zq_vi h (fun h => zq_br h (fun _ h => hpost _ _ h) (fun _ h => hpost _ _ h))) (fun _ h => hpost _ _ h))))))))))
def zp_send (bpost : Int32 → St2 → Bool) (u : St2) (p0 : Int32) (p1 : Int32) : Bool := match u with
  | (f0_count, f0_built, f0_lineLength, f0_colourCount, a1, a2, a3, a4, a5, a6, a7, a8, a9, a10, a11, a12, a13, a14) => zp_entry (fun r_1 u => match u with | (f0_count_2, f0_built_3, f0_lineLength_4, f0_colourCount_5, am31_8, am32_11, am33_14, am34_17, am35_20, am36_23, am37_26, am38_29, am39_32, am310_35, am311_38, am312_41, am313_44, am314_47) => (if 0 ≤ r_1 then (zq_in r_1 96 && zq_fc (am312_41 r_1.toNatClampNeg) (fun v_1 => bpost v_1 (f0_count_2, f0_built_3, f0_lineLength_4, f0_colourCount_5, am31_8, am32_11, am33_14, am34_17, am35_20, am36_23, am37_26, am38_29, am39_32, am310_35, am311_38, am312_41, am313_44, am314_47))) else bpost 0 (f0_count_2, f0_built_3, f0_lineLength_4, f0_colourCount_5, am31_8, am32_11, am33_14, am34_17, am35_20, am36_23, am37_26, am38_29, am39_32, am310_35, am311_38, am312_41, am313_44, am314_47))) (f0_count, f0_built, f0_lineLength, f0_colourCount, a1, a2, a3, a4, a5, a6, a7, a8, a9, a10, a11, a12, a13, a14) p0 p1
theorem zt_send {bpost : Int32 → St2 → Bool} {post : Int32 → St2 → Prop} {u : St2} {p0 : Int32} {p1 : Int32} (h : zp_send bpost u p0 p1 = true) (hpost : ∀ y0 y1, bpost y0 y1 = true → post y0 y1) : wpX_send post u p0 p1 := by
  obtain ⟨f0_count, f0_built, f0_lineLength, f0_colourCount, a1, a2, a3, a4, a5, a6, a7, a8, a9, a10, a11, a12, a13, a14⟩ := u
  unfold zp_send at h
  unfold wpX_send
  exact zt_entry h (fun r_1 u h => by obtain ⟨f0_count_2, f0_built_3, f0_lineLength_4, f0_colourCount_5, am31_8, am32_11, am33_14, am34_17, am35_20, am36_23, am37_26, am38_29, am39_32, am310_35, am311_38, am312_41, am313_44, am314_47⟩ := u; exact zq_br h (fun _ h => zq_vi h (fun h => zq_gg h (fun h => hpost _ _ h))) (fun _ h => hpost _ _ h))
def zp_sendSuper (bpost : Int32 → St2 → Bool) (u : St2) (p0 : Int32) (p1 : Int32) : Bool := match u with
  | (f0_count, f0_built, f0_lineLength, f0_colourCount, a1, a2, a3, a4, a5, a6, a7, a8, a9, a10, a11, a12, a13, a14) => zp_isClass (fun r_1 => (if r_1 = 0 then bpost 0 (f0_count, f0_built, f0_lineLength, f0_colourCount, a1, a2, a3, a4, a5, a6, a7, a8, a9, a10, a11, a12, a13, a14) else (zq_in p0 10 && (if 0 ≤ (a1 p0.toNatClampNeg) then (zq_in p0 10 && zq_fc (a1 p0.toNatClampNeg) (fun v_1 => zp_send (fun r_6 u => match u with | (f0_count_7, f0_built_8, f0_lineLength_9, f0_colourCount_10, am271_13, am272_16, am273_19, am274_22, am275_25, am276_28, am277_31, am278_34, am279_37, am2710_40, am2711_43, am2712_46, am2713_49, am2714_52) => bpost r_6 (f0_count_7, f0_built_8, f0_lineLength_9, f0_colourCount_10, am271_13, am272_16, am273_19, am274_22, am275_25, am276_28, am277_31, am278_34, am279_37, am2710_40, am2711_43, am2712_46, am2713_49, am2714_52)) (f0_count, f0_built, f0_lineLength, f0_colourCount, a1, a2, a3, a4, a5, a6, a7, a8, a9, a10, a11, a12, a13, a14) v_1 p1)) else bpost 0 (f0_count, f0_built, f0_lineLength, f0_colourCount, a1, a2, a3, a4, a5, a6, a7, a8, a9, a10, a11, a12, a13, a14))))) (f0_count, f0_built, f0_lineLength, f0_colourCount, a1, a2, a3, a4, a5, a6, a7, a8, a9, a10, a11, a12, a13, a14) p0
theorem zt_sendSuper {bpost : Int32 → St2 → Bool} {post : Int32 → St2 → Prop} {u : St2} {p0 : Int32} {p1 : Int32} (h : zp_sendSuper bpost u p0 p1 = true) (hpost : ∀ y0 y1, bpost y0 y1 = true → post y0 y1) : wpX_sendSuper post u p0 p1 := by
  obtain ⟨f0_count, f0_built, f0_lineLength, f0_colourCount, a1, a2, a3, a4, a5, a6, a7, a8, a9, a10, a11, a12, a13, a14⟩ := u
  unfold zp_sendSuper at h
  unfold wpX_sendSuper
  exact zt_isClass h (fun r_1 h => zq_br h (fun _ h => hpost _ _ h) (fun _ h => zq_vi h (fun h => zq_br h (fun _ h => zq_vi h (fun h => zq_gg h (fun h => zt_send h (fun r_6 u h => by obtain ⟨f0_count_7, f0_built_8, f0_lineLength_9, f0_colourCount_10, am271_13, am272_16, am273_19, am274_22, am275_25, am276_28, am277_31, am278_34, am279_37, am2710_40, am2711_43, am2712_46, am2713_49, am2714_52⟩ := u; exact hpost _ _ h)))) (fun _ h => hpost _ _ h))))
def zp_understands (bpost : Int32 → St2 → Bool) (u : St2) (p0 : Int32) : Bool := match u with
  | (f0_count, f0_built, f0_lineLength, f0_colourCount, a1, a2, a3, a4, a5, a6, a7, a8, a9, a10, a11, a12, a13, a14) => zp_isClass (fun r_1 => (if r_1 = 0 then bpost 0 (f0_count, f0_built, f0_lineLength, f0_colourCount, a1, a2, a3, a4, a5, a6, a7, a8, a9, a10, a11, a12, a13, a14) else zp_build (fun u => match u with | (f0_count_4, f0_built_5, f0_lineLength_6, f0_colourCount_7, am111_10, am112_13, am113_16, am114_19, am115_22, am116_25, am117_28, am118_31, am119_34, am1110_37, am1111_40, am1112_43, am1113_46, am1114_49) => (zq_in p0 10 && zq_fc (am113_16 p0.toNatClampNeg) (fun v_1 => bpost v_1 (f0_count_4, f0_built_5, f0_lineLength_6, f0_colourCount_7, am111_10, am112_13, am113_16, am114_19, am115_22, am116_25, am117_28, am118_31, am119_34, am1110_37, am1111_40, am1112_43, am1113_46, am1114_49)))) (f0_count, f0_built, f0_lineLength, f0_colourCount, a1, a2, a3, a4, a5, a6, a7, a8, a9, a10, a11, a12, a13, a14))) (f0_count, f0_built, f0_lineLength, f0_colourCount, a1, a2, a3, a4, a5, a6, a7, a8, a9, a10, a11, a12, a13, a14) p0
theorem zt_understands {bpost : Int32 → St2 → Bool} {post : Int32 → St2 → Prop} {u : St2} {p0 : Int32} (h : zp_understands bpost u p0 = true) (hpost : ∀ y0 y1, bpost y0 y1 = true → post y0 y1) : wpX_understands post u p0 := by
  obtain ⟨f0_count, f0_built, f0_lineLength, f0_colourCount, a1, a2, a3, a4, a5, a6, a7, a8, a9, a10, a11, a12, a13, a14⟩ := u
  unfold zp_understands at h
  unfold wpX_understands
  exact zt_isClass h (fun r_1 h => zq_br h (fun _ h => hpost _ _ h) (fun _ h => zt_build h (fun u h => by obtain ⟨f0_count_4, f0_built_5, f0_lineLength_6, f0_colourCount_7, am111_10, am112_13, am113_16, am114_19, am115_22, am116_25, am117_28, am118_31, am119_34, am1110_37, am1111_40, am1112_43, am1113_46, am1114_49⟩ := u; exact zq_vi h (fun h => zq_gg h (fun h => hpost _ _ h)))))
def zb_heirs_36 (bpost : Int32 → St2 → Bool) (x1 : Int32) (x2 : Int32) : Nat → Int32 → Int32 → Int32 → Int32 → Int32 → Int32 → (Nat → Int32) → (Nat → Int32) → (Nat → Int32) → (Nat → Int32) → (Nat → Int32) → (Nat → Int32) → (Nat → Int32) → (Nat → Int32) → (Nat → Int32) → (Nat → Int32) → (Nat → Int32) → (Nat → Int32) → (Nat → Int32) → (Nat → Int32) → Bool
  | 0 => fun _ _ _ _ _ _ _ _ _ _ _ _ _ _ _ _ _ _ _ _ => false
  | n + 1 => fun x3 x4 f0_count f0_built f0_lineLength f0_colourCount a1 a2 a3 a4 a5 a6 a7 a8 a9 a10 a11 a12 a13 a14 => (if f0_count ≤ x4 then bpost x3 (f0_count, f0_built, f0_lineLength, f0_colourCount, a1, a2, a3, a4, a5, a6, a7, a8, a9, a10, a11, a12, a13, a14) else zp_entry (fun r_8 u => match u with | (f0_count_9, f0_built_10, f0_lineLength_11, f0_colourCount_12, am491_15, am492_18, am493_21, am494_24, am495_27, am496_30, am497_33, am498_36, am499_39, am4910_42, am4911_45, am4912_48, am4913_51, am4914_54) => (if r_8 < 0 then zq_fc (x4 + 1) (fun x4_56 => zb_heirs_36 bpost x1 x2 n x3 x4_56 f0_count_9 f0_built_10 f0_lineLength_11 f0_colourCount_12 am491_15 am492_18 am493_21 am494_24 am495_27 am496_30 am497_33 am498_36 am499_39 am4910_42 am4911_45 am4912_48 am4913_51 am4914_54) else (zq_in r_8 96 && (if (am4911_45 r_8.toNatClampNeg) = x1 then zq_fc (x3 ||| ((1 : Int32) <<< (x4 &&& 31))) (fun x3_60 => zq_fc (x4 + 1) (fun x4_61 => zb_heirs_36 bpost x1 x2 n x3_60 x4_61 f0_count_9 f0_built_10 f0_lineLength_11 f0_colourCount_12 am491_15 am492_18 am493_21 am494_24 am495_27 am496_30 am497_33 am498_36 am499_39 am4910_42 am4911_45 am4912_48 am4913_51 am4914_54)) else zq_fc (x4 + 1) (fun x4_59 => zb_heirs_36 bpost x1 x2 n x3 x4_59 f0_count_9 f0_built_10 f0_lineLength_11 f0_colourCount_12 am491_15 am492_18 am493_21 am494_24 am495_27 am496_30 am497_33 am498_36 am499_39 am4910_42 am4911_45 am4912_48 am4913_51 am4914_54))))) (f0_count, f0_built, f0_lineLength, f0_colourCount, a1, a2, a3, a4, a5, a6, a7, a8, a9, a10, a11, a12, a13, a14) x4 x2)
theorem zs_heirs_36 {bpost : Int32 → St2 → Bool} {post : Int32 → St2 → Prop} {x1 : Int32} {x2 : Int32} : ∀ (n : Nat) {x3 : Int32} {x4 : Int32} {f0_count : Int32} {f0_built : Int32} {f0_lineLength : Int32} {f0_colourCount : Int32} {a1 : (Nat → Int32)} {a2 : (Nat → Int32)} {a3 : (Nat → Int32)} {a4 : (Nat → Int32)} {a5 : (Nat → Int32)} {a6 : (Nat → Int32)} {a7 : (Nat → Int32)} {a8 : (Nat → Int32)} {a9 : (Nat → Int32)} {a10 : (Nat → Int32)} {a11 : (Nat → Int32)} {a12 : (Nat → Int32)} {a13 : (Nat → Int32)} {a14 : (Nat → Int32)} (h : zb_heirs_36 bpost x1 x2 n x3 x4 f0_count f0_built f0_lineLength f0_colourCount a1 a2 a3 a4 a5 a6 a7 a8 a9 a10 a11 a12 a13 a14 = true) (hpost : ∀ y0 y1, bpost y0 y1 = true → post y0 y1), wX_heirs_36 post x1 x2 n x3 x4 f0_count f0_built f0_lineLength f0_colourCount a1 a2 a3 a4 a5 a6 a7 a8 a9 a10 a11 a12 a13 a14 := by
  intro n
  induction n with
  | zero => intro x3 x4 f0_count f0_built f0_lineLength f0_colourCount a1 a2 a3 a4 a5 a6 a7 a8 a9 a10 a11 a12 a13 a14 h hpost; exact (Bool.false_ne_true h).elim
  | succ n ih =>
    intro x3 x4 f0_count f0_built f0_lineLength f0_colourCount a1 a2 a3 a4 a5 a6 a7 a8 a9 a10 a11 a12 a13 a14 h hpost
    exact zq_br h (fun _ h => hpost _ _ h) (fun _ h => zt_entry h (fun r_8 u h => by obtain ⟨f0_count_9, f0_built_10, f0_lineLength_11, f0_colourCount_12, am491_15, am492_18, am493_21, am494_24, am495_27, am496_30, am497_33, am498_36, am499_39, am4910_42, am4911_45, am4912_48, am4913_51, am4914_54⟩ := u; exact zq_br h (fun _ h => zq_nm h (fun x4_56 h => ih h hpost)) (fun _ h => zq_vi h (fun h => zq_br h (fun _ h => zq_nm h (fun x3_60 h => zq_nm h (fun x4_61 h => ih h hpost))) (fun _ h => zq_nm h (fun x4_59 h => ih h hpost))))))
def zp_heirs (bpost : Int32 → St2 → Bool) (u : St2) (p0 : Int32) (p1 : Int32) : Bool := match u with
  | (f0_count, f0_built, f0_lineLength, f0_colourCount, a1, a2, a3, a4, a5, a6, a7, a8, a9, a10, a11, a12, a13, a14) => zp_isClass (fun r_1 => (if r_1 = 0 then bpost 0 (f0_count, f0_built, f0_lineLength, f0_colourCount, a1, a2, a3, a4, a5, a6, a7, a8, a9, a10, a11, a12, a13, a14) else zp_isSelector (fun r_3 => (if r_3 = 0 then bpost 0 (f0_count, f0_built, f0_lineLength, f0_colourCount, a1, a2, a3, a4, a5, a6, a7, a8, a9, a10, a11, a12, a13, a14) else (zq_in ((p0 * 8) + p1) 80 && (if (a2 ((p0 * 8) + p1).toNatClampNeg) = 0 then bpost 0 (f0_count, f0_built, f0_lineLength, f0_colourCount, a1, a2, a3, a4, a5, a6, a7, a8, a9, a10, a11, a12, a13, a14) else zb_heirs_36 bpost p0 p1 12 0 0 f0_count f0_built f0_lineLength f0_colourCount a1 a2 a3 a4 a5 a6 a7 a8 a9 a10 a11 a12 a13 a14)))) () p1)) (f0_count, f0_built, f0_lineLength, f0_colourCount, a1, a2, a3, a4, a5, a6, a7, a8, a9, a10, a11, a12, a13, a14) p0
theorem zt_heirs {bpost : Int32 → St2 → Bool} {post : Int32 → St2 → Prop} {u : St2} {p0 : Int32} {p1 : Int32} (h : zp_heirs bpost u p0 p1 = true) (hpost : ∀ y0 y1, bpost y0 y1 = true → post y0 y1) : wpX_heirs post u p0 p1 := by
  obtain ⟨f0_count, f0_built, f0_lineLength, f0_colourCount, a1, a2, a3, a4, a5, a6, a7, a8, a9, a10, a11, a12, a13, a14⟩ := u
  unfold zp_heirs at h
  unfold wpX_heirs
  exact zt_isClass h (fun r_1 h => zq_br h (fun _ h => hpost _ _ h) (fun _ h => zt_isSelector h (fun r_3 h => zq_br h (fun _ h => hpost _ _ h) (fun _ h => zq_vi h (fun h => zq_br h (fun _ h => hpost _ _ h) (fun _ h => Exists.intro 12 (zs_heirs_36 12 h hpost)))))))
end
section
def zq_tail (bP : Int32 → Int32 → Int32 → Int32 → Bool) (u : St2) (x6_55 : Int32) : Bool := zp_send (fun r_292 u => match u with | (fm0_count_293, fm0_built_294, fm0_lineLength_295, fm0_colourCount_296, am721_299, am722_302, am723_305, am724_308, am725_311, am726_314, am727_317, am728_320, am729_323, am7210_326, am7211_329, am7212_332, am7213_335, am7214_338) => zp_sendSuper (fun r_339 u => match u with | (fm0_count_340, fm0_built_341, fm0_lineLength_342, fm0_colourCount_343, am821_346, am822_349, am823_352, am824_355, am825_358, am826_361, am827_364, am828_367, am829_370, am8210_373, am8211_376, am8212_379, am8213_382, am8214_385) => zp_understands (fun r_386 u => match u with | (fm0_count_387, fm0_built_388, fm0_lineLength_389, fm0_colourCount_390, am901_393, am902_396, am903_399, am904_402, am905_405, am906_408, am907_411, am908_414, am909_417, am9010_420, am9011_423, am9012_426, am9013_429, am9014_432) => zp_heirs (fun r_433 u => match u with | (fm0_count_434, fm0_built_435, fm0_lineLength_436, fm0_colourCount_437, am1001_440, am1002_443, am1003_446, am1004_449, am1005_452, am1006_455, am1007_458, am1008_461, am1009_464, am10010_467, am10011_470, am10012_473, am10013_476, am10014_479) => bP r_292 r_339 r_386 r_433) (fm0_count_387, fm0_built_388, fm0_lineLength_389, fm0_colourCount_390, am901_393, am902_396, am903_399, am904_402, am905_405, am906_408, am907_411, am908_414, am909_417, am9010_420, am9011_423, am9012_426, am9013_429, am9014_432) 0 x6_55) (fm0_count_340, fm0_built_341, fm0_lineLength_342, fm0_colourCount_343, am821_346, am822_349, am823_352, am824_355, am825_358, am826_361, am827_364, am828_367, am829_370, am8210_373, am8211_376, am8212_379, am8213_382, am8214_385) 1) (fm0_count_293, fm0_built_294, fm0_lineLength_295, fm0_colourCount_296, am721_299, am722_302, am723_305, am724_308, am725_311, am726_314, am727_317, am728_320, am729_323, am7210_326, am7211_329, am7212_332, am7213_335, am7214_338) 1 x6_55) u 1 x6_55
theorem zq_tail_s {bP : Int32 → Int32 → Int32 → Int32 → Bool} {P : Int32 → Int32 → Int32 → Int32 → Prop} {u : St2} {x6_55 : Int32} (h : zq_tail bP u x6_55 = true) (hP : ∀ y0 y1 y2 y3, bP y0 y1 y2 y3 = true → P y0 y1 y2 y3) : wpX_send (fun r_292 u => match u with | (fm0_count_293, fm0_built_294, fm0_lineLength_295, fm0_colourCount_296, am721_299, am722_302, am723_305, am724_308, am725_311, am726_314, am727_317, am728_320, am729_323, am7210_326, am7211_329, am7212_332, am7213_335, am7214_338) => (wpX_sendSuper (fun r_339 u => match u with | (fm0_count_340, fm0_built_341, fm0_lineLength_342, fm0_colourCount_343, am821_346, am822_349, am823_352, am824_355, am825_358, am826_361, am827_364, am828_367, am829_370, am8210_373, am8211_376, am8212_379, am8213_382, am8214_385) => (wpX_understands (fun r_386 u => match u with | (fm0_count_387, fm0_built_388, fm0_lineLength_389, fm0_colourCount_390, am901_393, am902_396, am903_399, am904_402, am905_405, am906_408, am907_411, am908_414, am909_417, am9010_420, am9011_423, am9012_426, am9013_429, am9014_432) => (wpX_heirs (fun r_433 u => match u with | (fm0_count_434, fm0_built_435, fm0_lineLength_436, fm0_colourCount_437, am1001_440, am1002_443, am1003_446, am1004_449, am1005_452, am1006_455, am1007_458, am1008_461, am1009_464, am10010_467, am10011_470, am10012_473, am10013_476, am10014_479) => (P r_292 r_339 r_386 r_433)) (fm0_count_387, fm0_built_388, fm0_lineLength_389, fm0_colourCount_390, am901_393, am902_396, am903_399, am904_402, am905_405, am906_408, am907_411, am908_414, am909_417, am9010_420, am9011_423, am9012_426, am9013_429, am9014_432) 0 x6_55)) (fm0_count_340, fm0_built_341, fm0_lineLength_342, fm0_colourCount_343, am821_346, am822_349, am823_352, am824_355, am825_358, am826_361, am827_364, am828_367, am829_370, am8210_373, am8211_376, am8212_379, am8213_382, am8214_385) 1)) (fm0_count_293, fm0_built_294, fm0_lineLength_295, fm0_colourCount_296, am721_299, am722_302, am723_305, am724_308, am725_311, am726_314, am727_317, am728_320, am729_323, am7210_326, am7211_329, am7212_332, am7213_335, am7214_338) 1 x6_55)) u 1 x6_55 := by
  exact zt_send h (fun r_292 u h => by obtain ⟨fm0_count_293, fm0_built_294, fm0_lineLength_295, fm0_colourCount_296, am721_299, am722_302, am723_305, am724_308, am725_311, am726_314, am727_317, am728_320, am729_323, am7210_326, am7211_329, am7212_332, am7213_335, am7214_338⟩ := u; exact zt_sendSuper h (fun r_339 u h => by obtain ⟨fm0_count_340, fm0_built_341, fm0_lineLength_342, fm0_colourCount_343, am821_346, am822_349, am823_352, am824_355, am825_358, am826_361, am827_364, am828_367, am829_370, am8210_373, am8211_376, am8212_379, am8213_382, am8214_385⟩ := u; exact zt_understands h (fun r_386 u h => by obtain ⟨fm0_count_387, fm0_built_388, fm0_lineLength_389, fm0_colourCount_390, am901_393, am902_396, am903_399, am904_402, am905_405, am906_408, am907_411, am908_414, am909_417, am9010_420, am9011_423, am9012_426, am9013_429, am9014_432⟩ := u; exact zt_heirs h (fun r_433 u h => by obtain ⟨fm0_count_434, fm0_built_435, fm0_lineLength_436, fm0_colourCount_437, am1001_440, am1002_443, am1003_446, am1004_449, am1005_452, am1006_455, am1007_458, am1008_461, am1009_464, am10010_467, am10011_470, am10012_473, am10013_476, am10014_479⟩ := u; exact hP _ _ _ _ h))))
end
section
/-! the calls that set the object up -/
theorem zl_upZ (i : Nat) : upd (fun _ => 0) i 0 = (fun _ => 0) := by
  funext j
  unfold upd
  split <;> rfl
theorem zl_40 {post : Int32 → St2 → Prop} {c : Nat} (hc : c < 10) {b l k : Int32} {a1 a3 a4 a5 a6 a7 a8 a9 a10 a11 a12 a13 a14 : Nat → Int32} (H : post (nI c) (nI (c + 1), 0, l, k, a1, (fun _ => 0), a3, a4, a5, a6, a7, a8, a9, a10, a11, a12, a13, a14)) : ∃ n, wX_addClass_40 post (nI c) b l k n 0 a1 (fun _ => 0) a3 a4 a5 a6 a7 a8 a9 a10 a11 a12 a13 a14 :=
  loop_0 (σ := Unit) (fun n i _ => wX_addClass_40 post (nI c) b l k n (nI i) a1 (fun _ => 0) a3 a4 a5 a6 a7 a8 a9 a10 a11 a12 a13 a14) (fun _ _ => True) 8 () trivial
    (fun n _ _ => br_t (by decide) (nm_r (nI_1 c) (by rw [nI_pred]; exact H)))
    (fun n i _ hi _ hw => br_f (nI_ge (b := 8) hi (by decide)) ⟨by
      show vp_in (nI c * nI 8 + nI i) 80
      rw [pk_mul, nI_add]
      exact vp_in_nI (by omega) (by decide), nm_r (zl_upZ _) (nm_r (nI_1 i) (hw () trivial))⟩)
theorem zl_15 {post : Int32 → St2 → Prop} {c : Nat} (hc : c < 10) {p b l k : Int32} {a1 a3 a4 a5 a6 a7 a8 a9 a10 a11 a12 a13 a14 : Nat → Int32} (H : post (nI c) (nI (c + 1), 0, l, k, upd a1 c p.toInt8.toInt32, (fun _ => 0), a3, a4, a5, a6, a7, a8, a9, a10, a11, a12, a13, a14)) : wX_addClass_15 post p (nI c) b l k a1 (fun _ => 0) a3 a4 a5 a6 a7 a8 a9 a10 a11 a12 a13 a14 :=
  br_t (nI_lt (b := 10) hc (by decide)) ⟨vp_in_nI hc (by decide), nm_r (by rw [nI_clamp (by omega)]) (zl_40 hc H)⟩
theorem zl_isC {P : Int32 → Prop} {n c : Nat} (hc : c < n) (hn : n < 2 ^ 31) {b l k : Int32} {a1 a2 a3 a4 a5 a6 a7 a8 a9 a10 a11 a12 a13 a14 : Nat → Int32} (H : P 1) : wpX_isClass P (nI n, b, l, k, a1, a2, a3, a4, a5, a6, a7, a8, a9, a10, a11, a12, a13, a14) (nI c) :=
  br_f (nI_pos (by omega)) (br_f (nI_ge hc hn) H)
theorem zl_isN {P : Int32 → Prop} {n : Nat} {p : Int32} (hp : p < 0 ∨ nI n ≤ p) {b l k : Int32} {a1 a2 a3 a4 a5 a6 a7 a8 a9 a10 a11 a12 a13 a14 : Nat → Int32} (H : P 0) : wpX_isClass P (nI n, b, l, k, a1, a2, a3, a4, a5, a6, a7, a8, a9, a10, a11, a12, a13, a14) p := by
  by_cases h : p < 0
  · exact br_t h H
  · exact br_f h (br_t (hp.resolve_left h) H)
theorem zl_isS {P : Int32 → Prop} {s : Nat} (hs : s < 8) (H : P 1) : wpX_isSelector P () (nI s) :=
  br_f (nI_pos (by omega)) (br_f (nI_ge (b := 8) hs (by decide)) H)
theorem zl_isT {P : Int32 → Prop} {p : Int32} (hp : p < 0 ∨ 8 ≤ p) (H : P 0) : wpX_isSelector P () p := by
  by_cases h : p < 0
  · exact br_t h H
  · exact br_f h (br_t (hp.resolve_left h) H)
theorem zl_addM {post : Int32 → St2 → Prop} {c : Nat} (hc : c < 10) {b l k : Int32} {a1 a3 a4 a5 a6 a7 a8 a9 a10 a11 a12 a13 a14 : Nat → Int32} (H : post (nI c) (nI (c + 1), 0, l, k, upd a1 c (-1), (fun _ => 0), a3, a4, a5, a6, a7, a8, a9, a10, a11, a12, a13, a14)) : wpX_addClass post (nI c, b, l, k, a1, (fun _ => 0), a3, a4, a5, a6, a7, a8, a9, a10, a11, a12, a13, a14) (-1) :=
  br_t rfl (zl_15 hc H)
theorem zl_addC {post : Int32 → St2 → Prop} {c d : Nat} (hc : c < 10) (hd : d < c) {b l k : Int32} {a1 a3 a4 a5 a6 a7 a8 a9 a10 a11 a12 a13 a14 : Nat → Int32} (H : post (nI c) (nI (c + 1), 0, l, k, upd a1 c (nI d).toInt8.toInt32, (fun _ => 0), a3, a4, a5, a6, a7, a8, a9, a10, a11, a12, a13, a14)) : wpX_addClass post (nI c, b, l, k, a1, (fun _ => 0), a3, a4, a5, a6, a7, a8, a9, a10, a11, a12, a13, a14) (nI d) := by
  refine br_f ?_ (zl_isC hd (by omega) (br_f (by decide) (zl_15 hc H)))
  intro e
  have h := nI_pos (n := d) (by omega)
  rw [e] at h
  exact h (by decide)
theorem zl_addN {post : Int32 → St2 → Prop} {c : Nat} {p : Int32} (h1 : ¬ p = -1) (hp : p < 0 ∨ nI c ≤ p) {b l k : Int32} {a1 a2 a3 a4 a5 a6 a7 a8 a9 a10 a11 a12 a13 a14 : Nat → Int32} (H : post (-1) (nI c, b, l, k, a1, a2, a3, a4, a5, a6, a7, a8, a9, a10, a11, a12, a13, a14)) : wpX_addClass post (nI c, b, l, k, a1, a2, a3, a4, a5, a6, a7, a8, a9, a10, a11, a12, a13, a14) p :=
  br_f h1 (zl_isN hp (br_t rfl H))
theorem zl_cell {c s : Nat} : nI c * 8 + nI s = nI (c * 8 + s) := by
  show nI c * nI 8 + nI s = nI (c * 8 + s)
  rw [pk_mul, nI_add]
theorem zl_def {post : Int32 → St2 → Prop} {n c s : Nat} {m : Int32} (hc : c < n) (hn : n ≤ 10) (hs : s < 8) (h1 : ¬ m < 1) (h2 : m ≤ 1000) (h3 : m.toInt16.toInt32 = m) {b l k : Int32} {a1 a2 a3 a4 a5 a6 a7 a8 a9 a10 a11 a12 a13 a14 : Nat → Int32} (H : post 1 (nI n, 0, l, k, a1, upd a2 (c * 8 + s) m, a3, a4, a5, a6, a7, a8, a9, a10, a11, a12, a13, a14)) : wpX_define post (nI n, b, l, k, a1, a2, a3, a4, a5, a6, a7, a8, a9, a10, a11, a12, a13, a14) (nI c) (nI s) m := by
  unfold wpX_define
  refine zl_isC hc (by omega) (br_f (by decide) (zl_isS hs (br_f (by decide) (br_f h1 (br_t h2 ?_)))))
  rw [zl_cell]
  exact ⟨vp_in_nI (by omega) (by decide), nm_r (by rw [nI_clamp (by omega), h3]) H⟩
theorem zl_defN {post : Int32 → St2 → Prop} {n : Nat} {p q m : Int32} (hp : p < 0 ∨ nI n ≤ p) {b l k : Int32} {a1 a2 a3 a4 a5 a6 a7 a8 a9 a10 a11 a12 a13 a14 : Nat → Int32} (H : post 0 (nI n, b, l, k, a1, a2, a3, a4, a5, a6, a7, a8, a9, a10, a11, a12, a13, a14)) : wpX_define post (nI n, b, l, k, a1, a2, a3, a4, a5, a6, a7, a8, a9, a10, a11, a12, a13, a14) p q m := by
  unfold wpX_define
  exact zl_isN hp (br_t rfl H)
theorem zl_drop {post : Int32 → St2 → Prop} {n : Nat} (hn : n ≤ 10) {p q : Int32} {b l k : Int32} {a1 a2 a3 a4 a5 a6 a7 a8 a9 a10 a11 a12 a13 a14 : Nat → Int32}
    (H0 : (∀ c j, c < n → j < 8 → p = nI c → q = nI j → a2 (c * 8 + j) = 0) → post 0 (nI n, b, l, k, a1, a2, a3, a4, a5, a6, a7, a8, a9, a10, a11, a12, a13, a14))
    (H1 : ∀ c j, c < n → j < 8 → p = nI c → q = nI j → ¬ a2 (c * 8 + j) = 0 → post 1 (nI n, 0, l, k, a1, upd a2 (c * 8 + j) 0, a3, a4, a5, a6, a7, a8, a9, a10, a11, a12, a13, a14)) :
    wpX_drop post (nI n, b, l, k, a1, a2, a3, a4, a5, a6, a7, a8, a9, a10, a11, a12, a13, a14) p q := by
  unfold wpX_drop
  have hno : (p < 0 ∨ nI n ≤ p) → ∀ c j, c < n → j < 8 → p = nI c → q = nI j → a2 (c * 8 + j) = 0 := by
    intro h c j hc _ e _
    rw [e] at h
    exact absurd h (fun z => z.elim (nI_pos (by omega)) (nI_ge hc (by omega)))
  rcases pk_ix p (n := n) (by omega) with h | h | ⟨c, hc, rfl⟩
  · exact zl_isN (Or.inl h) (br_t rfl (H0 (hno (Or.inl h))))
  · exact zl_isN (Or.inr h) (br_t rfl (H0 (hno (Or.inr h))))
  · have hnq : (q < 0 ∨ nI 8 ≤ q) → ∀ c' j, c' < n → j < 8 → nI c = nI c' → q = nI j → a2 (c' * 8 + j) = 0 := by
      intro h c' j _ hj _ e
      rw [e] at h
      exact absurd h (fun z => z.elim (nI_pos (by omega)) (nI_ge hj (by omega)))
    refine zl_isC hc (by omega) (br_f (by decide) ?_)
    rcases pk_ix q (n := 8) (by omega) with h | h | ⟨j, hj, rfl⟩
    · exact zl_isT (Or.inl h) (br_t rfl (H0 (hnq (Or.inl h))))
    · exact zl_isT (Or.inr h) (br_t rfl (H0 (hnq (Or.inr h))))
    · refine zl_isS hj (br_f (by decide) ?_)
      rw [zl_cell, nI_clamp (by omega)]
      refine ⟨vp_in_nI (by omega) (by decide), ?_⟩
      by_cases h : a2 (c * 8 + j) = 0
      · refine br_t h (H0 ?_)
        intro c' j' hc' hj' e1 e2
        rw [nI_eq (by omega) (by omega)] at e1 e2
        rw [← e1, ← e2]
        exact h
      · exact br_f h ⟨vp_in_nI (by omega) (by decide), nm_e (H1 c j hc hj rfl rfl h)⟩
end
section
/-! the table: what the four calls answer, in every state that the law's set-up can leave -/
/-- what is due: lower (the second lies under the first), s, t, d (0: nothing dropped, 1: the first one's, 2: the second one's) -/
def zl_bp (lower : Bool) (s t d : Nat) (r1 r2 r3 r4 : Int32) : Bool :=
  let own := (s == t) && !(d == 2)
  let top := !(d == 1)
  decide (r1 = if own then 7 else if lower && top then 5 else 0) && (decide (r2 = if lower && top then 5 else 0) && (decide (r3 = (if d == 2 then 0 else (1 : Int32) <<< (nI t &&& 31)) ||| (if lower && top then (1 : Int32) <<< (nI s &&& 31) else 0)) && decide (r4 = if d == 1 then 0 else if lower && !own then 3 else 1)))
def zl_a2 (s t d : Nat) : Nat → Int32 := match d with
  | 0 => upd (upd (fun _ => 0) (0 * 8 + s) 5) (1 * 8 + t) 7
  | 1 => upd (upd (upd (fun _ => 0) (0 * 8 + s) 5) (1 * 8 + t) 7) (0 * 8 + s) 0
  | _ => upd (upd (upd (fun _ => 0) (0 * 8 + s) 5) (1 * 8 + t) 7) (1 * 8 + t) 0
def zl_two (lower : Bool) (s t d : Nat) : Bool := zq_tail (zl_bp lower s t d) (2, 0, 0, 0, upd (upd (fun _ => 0) 0 (-1)) 1 (if lower then 0 else -1), zl_a2 s t d, (fun _ => 0), (fun _ => 0), (fun _ => 0), (fun _ => 0), (fun _ => 0), (fun _ => 0), (fun _ => 0), (fun _ => 0), (fun _ => 0), (fun _ => 0), (fun _ => 0), (fun _ => 0)) (nI s)
/-- one alone -/
def zl_bq (d : Nat) (r1 r2 r3 r4 : Int32) : Bool := decide (r1 = 0) && (decide (r2 = 0) && (decide (r3 = 0) && decide (r4 = if d == 1 then 0 else 1)))
def zl_b2 (s d : Nat) : Nat → Int32 := match d with
  | 0 => upd (fun _ => 0) (0 * 8 + s) 5
  | _ => upd (upd (fun _ => 0) (0 * 8 + s) 5) (0 * 8 + s) 0
def zl_one (s d : Nat) : Bool := zq_tail (zl_bq d) (1, 0, 0, 0, upd (fun _ => 0) 0 (-1), zl_b2 s d, (fun _ => 0), (fun _ => 0), (fun _ => 0), (fun _ => 0), (fun _ => 0), (fun _ => 0), (fun _ => 0), (fun _ => 0), (fun _ => 0), (fun _ => 0), (fun _ => 0), (fun _ => 0)) (nI s)
theorem zl_o : ∀ s, s < 8 → ∀ d, d < 2 → zl_one s d = true := by decide +kernel
theorem zl_t0 : ∀ t, t < 8 → ∀ d, d < 3 → zl_two true 0 t d = true := by decide +kernel
theorem zl_f0 : ∀ t, t < 8 → ∀ d, d < 3 → zl_two false 0 t d = true := by decide +kernel
theorem zl_t1 : ∀ t, t < 8 → ∀ d, d < 3 → zl_two true 1 t d = true := by decide +kernel
theorem zl_f1 : ∀ t, t < 8 → ∀ d, d < 3 → zl_two false 1 t d = true := by decide +kernel
theorem zl_t2 : ∀ t, t < 8 → ∀ d, d < 3 → zl_two true 2 t d = true := by decide +kernel
theorem zl_f2 : ∀ t, t < 8 → ∀ d, d < 3 → zl_two false 2 t d = true := by decide +kernel
theorem zl_t3 : ∀ t, t < 8 → ∀ d, d < 3 → zl_two true 3 t d = true := by decide +kernel
theorem zl_f3 : ∀ t, t < 8 → ∀ d, d < 3 → zl_two false 3 t d = true := by decide +kernel
theorem zl_t4 : ∀ t, t < 8 → ∀ d, d < 3 → zl_two true 4 t d = true := by decide +kernel
theorem zl_f4 : ∀ t, t < 8 → ∀ d, d < 3 → zl_two false 4 t d = true := by decide +kernel
theorem zl_t5 : ∀ t, t < 8 → ∀ d, d < 3 → zl_two true 5 t d = true := by decide +kernel
theorem zl_f5 : ∀ t, t < 8 → ∀ d, d < 3 → zl_two false 5 t d = true := by decide +kernel
theorem zl_t6 : ∀ t, t < 8 → ∀ d, d < 3 → zl_two true 6 t d = true := by decide +kernel
theorem zl_f6 : ∀ t, t < 8 → ∀ d, d < 3 → zl_two false 6 t d = true := by decide +kernel
theorem zl_t7 : ∀ t, t < 8 → ∀ d, d < 3 → zl_two true 7 t d = true := by decide +kernel
theorem zl_f7 : ∀ t, t < 8 → ∀ d, d < 3 → zl_two false 7 t d = true := by decide +kernel
theorem zl_ta : ∀ s, s < 8 → ∀ t, t < 8 → ∀ d, d < 3 → zl_two true s t d = true := by
  intro s hs
  match s, hs with
  | 0, _ => exact zl_t0
  | 1, _ => exact zl_t1
  | 2, _ => exact zl_t2
  | 3, _ => exact zl_t3
  | 4, _ => exact zl_t4
  | 5, _ => exact zl_t5
  | 6, _ => exact zl_t6
  | 7, _ => exact zl_t7
  | n + 8, h => exact absurd h (by omega)
theorem zl_fa : ∀ s, s < 8 → ∀ t, t < 8 → ∀ d, d < 3 → zl_two false s t d = true := by
  intro s hs
  match s, hs with
  | 0, _ => exact zl_f0
  | 1, _ => exact zl_f1
  | 2, _ => exact zl_f2
  | 3, _ => exact zl_f3
  | 4, _ => exact zl_f4
  | 5, _ => exact zl_f5
  | 6, _ => exact zl_f6
  | 7, _ => exact zl_f7
  | n + 8, h => exact absurd h (by omega)
end
section
/-! the law -/
theorem zl_bp_e {lower : Bool} {s t d : Nat} {r1 r2 r3 r4 : Int32} (h : zl_bp lower s t d r1 r2 r3 r4 = true) :
    r1 = (if (s == t) && !(d == 2) then 7 else if lower && !(d == 1) then 5 else 0) ∧ r2 = (if lower && !(d == 1) then 5 else 0) ∧
    r3 = ((if d == 2 then 0 else (1 : Int32) <<< (nI t &&& 31)) ||| (if lower && !(d == 1) then (1 : Int32) <<< (nI s &&& 31) else 0)) ∧
    r4 = (if d == 1 then 0 else if lower && !((s == t) && !(d == 2)) then 3 else 1) := by
  unfold zl_bp at h
  have h1 := Bool.and_eq_true_iff.mp h
  have h2 := Bool.and_eq_true_iff.mp h1.2
  have h3 := Bool.and_eq_true_iff.mp h2.2
  exact ⟨of_decide_eq_true h1.1, of_decide_eq_true h2.1, of_decide_eq_true h3.1, of_decide_eq_true h3.2⟩
theorem zl_bq_e {d : Nat} {r1 r2 r3 r4 : Int32} (h : zl_bq d r1 r2 r3 r4 = true) : r1 = 0 ∧ r2 = 0 ∧ r3 = 0 ∧ r4 = (if d == 1 then 0 else 1) := by
  unfold zl_bq at h
  have h1 := Bool.and_eq_true_iff.mp h
  have h2 := Bool.and_eq_true_iff.mp h1.2
  have h3 := Bool.and_eq_true_iff.mp h2.2
  exact ⟨of_decide_eq_true h1.1, of_decide_eq_true h2.1, of_decide_eq_true h3.1, of_decide_eq_true h3.2⟩
theorem zl_d3 {d : Nat} {A B : Prop} (hd : d < 3) (h1 : d = 1 ↔ A) (h2 : d = 2 ↔ B) (hA : ¬ A) (hB : ¬ B) : d = 0 := by
  have a : ¬ d = 1 := fun z => hA (h1.mp z)
  have b : ¬ d = 2 := fun z => hB (h2.mp z)
  omega
theorem zl_fin2 {lower : Bool} {p3 p4 : Int32} {s t d : Nat} (hs : s < 8) (ht : t < 8) (hd : d < 3) {mc ms kc ks : Nat} (h1 : d = 1 ↔ (p3 = 0 ∧ p4 = nI s)) (h2 : d = 2 ↔ (p3 = 1 ∧ p4 = nI t)) {off r1 r2 r3 r4 : Int32} (ho : off = if d = 0 then 0 else 1) (h : zl_bp lower s t d r1 r2 r3 r4 = true) :
    wL_lawOf_119 (fun r _ => r = 1) mc ms (if lower then 0 else -1) p3 p4 (nI s) (nI t) 1 off r1 r2 r3 r4 1 kc ks := by
  obtain ⟨e1, e2, e3, e4⟩ := zl_bp_e h
  clear h
  have key : nI s = nI t ↔ s = t := nI_eq (by omega) (by omega)
  have q2 : ¬ (0 : Int32) = 1 := by decide
  by_cases st : s = t
  · have hst : (s == t) = true := by simp [st]
    have hx : nI s = nI t := key.mpr st
    rw [hst] at e1 e4
    clear hst key st
    by_cases c3 : p3 = 0
    · by_cases c4 : p4 = nI s
      · have ed : d = 1 := h1.mpr ⟨c3, c4⟩
        have c1 : ¬ p3 = 1 := fun z => q2 (c3.symm.trans z)
        clear h1 h2
        subst ed
        subst e1 e2 e3 e4 ho
        cases lower <;> repeat (first | exact rfl | refine nm_e ?_ | refine br_t (by first | assumption | exact rfl) ?_ | refine br_f (by first | assumption | decide) ?_)
      · have ed : d = 0 := zl_d3 hd h1 h2 (fun z => c4 z.2) (fun z => q2 (c3.symm.trans z.1))
        have c1 : ¬ p3 = 1 := fun z => q2 (c3.symm.trans z)
        clear h1 h2
        subst ed
        subst e1 e2 e3 e4 ho
        cases lower <;> repeat (first | exact rfl | refine nm_e ?_ | refine br_t (by first | assumption | exact rfl) ?_ | refine br_f (by first | assumption | decide) ?_)
    · by_cases c1 : p3 = 1
      · by_cases c4 : p4 = nI t
        · have ed : d = 2 := h2.mpr ⟨c1, c4⟩
          clear h1 h2
          subst ed
          subst e1 e2 e3 e4 ho
          cases lower <;> repeat (first | exact rfl | refine nm_e ?_ | refine br_t (by first | assumption | exact rfl) ?_ | refine br_f (by first | assumption | decide) ?_)
        · have ed : d = 0 := zl_d3 hd h1 h2 (fun z => c3 z.1) (fun z => c4 z.2)
          clear h1 h2
          subst ed
          subst e1 e2 e3 e4 ho
          cases lower <;> repeat (first | exact rfl | refine nm_e ?_ | refine br_t (by first | assumption | exact rfl) ?_ | refine br_f (by first | assumption | decide) ?_)
      · have ed : d = 0 := zl_d3 hd h1 h2 (fun z => c3 z.1) (fun z => c1 z.1)
        clear h1 h2
        subst ed
        subst e1 e2 e3 e4 ho
        cases lower <;> repeat (first | exact rfl | refine nm_e ?_ | refine br_t (by first | assumption | exact rfl) ?_ | refine br_f (by first | assumption | decide) ?_)
  · have hst : (s == t) = false := by simp [st]
    have hx : ¬ nI s = nI t := fun z => st (key.mp z)
    rw [hst] at e1 e4
    clear hst key st
    by_cases c3 : p3 = 0
    · by_cases c4 : p4 = nI s
      · have ed : d = 1 := h1.mpr ⟨c3, c4⟩
        have c1 : ¬ p3 = 1 := fun z => q2 (c3.symm.trans z)
        clear h1 h2
        subst ed
        subst e1 e2 e3 e4 ho
        cases lower <;> repeat (first | exact rfl | refine nm_e ?_ | refine br_t (by first | assumption | exact rfl) ?_ | refine br_f (by first | assumption | decide) ?_)
      · have ed : d = 0 := zl_d3 hd h1 h2 (fun z => c4 z.2) (fun z => q2 (c3.symm.trans z.1))
        have c1 : ¬ p3 = 1 := fun z => q2 (c3.symm.trans z)
        clear h1 h2
        subst ed
        subst e1 e2 e3 e4 ho
        cases lower <;> repeat (first | exact rfl | refine nm_e ?_ | refine br_t (by first | assumption | exact rfl) ?_ | refine br_f (by first | assumption | decide) ?_)
    · by_cases c1 : p3 = 1
      · by_cases c4 : p4 = nI t
        · have ed : d = 2 := h2.mpr ⟨c1, c4⟩
          clear h1 h2
          subst ed
          subst e1 e2 e3 e4 ho
          cases lower <;> repeat (first | exact rfl | refine nm_e ?_ | refine br_t (by first | assumption | exact rfl) ?_ | refine br_f (by first | assumption | decide) ?_)
        · have ed : d = 0 := zl_d3 hd h1 h2 (fun z => c3 z.1) (fun z => c4 z.2)
          clear h1 h2
          subst ed
          subst e1 e2 e3 e4 ho
          cases lower <;> repeat (first | exact rfl | refine nm_e ?_ | refine br_t (by first | assumption | exact rfl) ?_ | refine br_f (by first | assumption | decide) ?_)
      · have ed : d = 0 := zl_d3 hd h1 h2 (fun z => c3 z.1) (fun z => c1 z.1)
        clear h1 h2
        subst ed
        subst e1 e2 e3 e4 ho
        cases lower <;> repeat (first | exact rfl | refine nm_e ?_ | refine br_t (by first | assumption | exact rfl) ?_ | refine br_f (by first | assumption | decide) ?_)
theorem zl_fin1 {p0 p3 p4 x7 : Int32} {s d : Nat} (hd : d < 2) {mc ms kc ks : Nat} (h0 : ¬ p0 = 0) (h1 : d = 1 ↔ (p3 = 0 ∧ p4 = nI s)) {off r1 r2 r3 r4 : Int32} (ho : off = if d = 0 then 0 else 1) (h : zl_bq d r1 r2 r3 r4 = true) :
    wL_lawOf_119 (fun r _ => r = 1) mc ms p0 p3 p4 (nI s) x7 (-1) off r1 r2 r3 r4 0 kc ks := by
  obtain ⟨e1, e2, e3, e4⟩ := zl_bq_e h
  clear h
  by_cases c3 : p3 = 0
  · by_cases c4 : p4 = nI s
    · have ed : d = 1 := h1.mpr ⟨c3, c4⟩
      clear h1
      subst ed
      subst e1 e2 e3 e4 ho
      repeat (first | exact rfl | refine nm_e ?_ | refine br_t (by first | assumption | exact rfl) ?_ | refine br_f (by first | assumption | decide) ?_)
    · have ed : d = 0 := by
        have a : ¬ d = 1 := fun z => c4 (h1.mp z).2
        omega
      clear h1
      subst ed
      subst e1 e2 e3 e4 ho
      repeat (first | exact rfl | refine nm_e ?_ | refine br_t (by first | assumption | exact rfl) ?_ | refine br_f (by first | assumption | decide) ?_)
  · have ed : d = 0 := by
      have a : ¬ d = 1 := fun z => c3 (h1.mp z).1
      omega
    clear h1
    subst ed
    subst e1 e2 e3 e4 ho
    repeat (first | exact rfl | refine nm_e ?_ | refine br_t (by first | assumption | exact rfl) ?_ | refine br_f (by first | assumption | decide) ?_)
end
section
theorem zl_addL {post : Int32 → St2 → Prop} {lower : Bool} {c : Nat} (hc : c < 10) (h0 : 0 < c) {b l k : Int32} {a1 a3 a4 a5 a6 a7 a8 a9 a10 a11 a12 a13 a14 : Nat → Int32} (H : post (nI c) (nI (c + 1), 0, l, k, upd a1 c (if lower then 0 else -1), (fun _ => 0), a3, a4, a5, a6, a7, a8, a9, a10, a11, a12, a13, a14)) : wpX_addClass post (nI c, b, l, k, a1, (fun _ => 0), a3, a4, a5, a6, a7, a8, a9, a10, a11, a12, a13, a14) (if lower then 0 else -1) := by
  cases lower with
  | false => exact zl_addM hc H
  | true => exact zl_addC (d := 0) hc h0 H
theorem zl_init {post : St2 → Prop} (H : post (0, 0, 0, 0, (fun _ => 0), (fun _ => 0), (fun _ => 0), (fun _ => 0), (fun _ => 0), (fun _ => 0), (fun _ => 0), (fun _ => 0), (fun _ => 0), (fun _ => 0), (fun _ => 0), (fun _ => 0), (fun _ => 0), (fun _ => 0))) : wpX_init post 14 544 (0, 0, 0, 0) :=
  And.intro (by decide) (And.intro (by decide) (And.intro (by decide) (And.intro (by decide) (And.intro (by decide) (And.intro (by decide) (And.intro (by decide) (And.intro (by decide) (And.intro (by decide) (And.intro (by decide) (And.intro (by decide) (And.intro (by decide) (And.intro (by decide) (And.intro (by decide) (And.intro (by decide) (And.intro (by decide) (And.intro (by decide) (And.intro (by decide) (And.intro (by decide) (And.intro (by decide) (And.intro (by decide) (And.intro (by decide) (And.intro (by decide) (And.intro (by decide) (And.intro (by decide) (And.intro (by decide) (And.intro (by decide) (And.intro (by decide) (H))))))))))))))))))))))))))))
theorem zl_hit {s t c j : Nat} (hc : c < 2) (hj : j < 8) (h : ¬ upd (upd (fun _ => 0) (0 * 8 + s) 5) (1 * 8 + t) 7 (c * 8 + j) = 0) (hs : s < 8) (ht : t < 8) : (c = 0 ∧ j = s) ∨ (c = 1 ∧ j = t) := by
  by_cases g : c * 8 + j = 1 * 8 + t
  · right; omega
  · rw [pk_un g] at h
    by_cases g2 : c * 8 + j = 0 * 8 + s
    · left; omega
    · rw [pk_un g2] at h
      exact absurd rfl h
theorem zl_hit1 {s c j : Nat} (hc : c < 1) (hj : j < 8) (h : ¬ upd (fun _ => 0) (0 * 8 + s) 5 (c * 8 + j) = 0) : c = 0 ∧ j = s := by
  by_cases g2 : c * 8 + j = 0 * 8 + s
  · omega
  · rw [pk_un g2] at h
    exact absurd rfl h
theorem zl_at0 {s t : Nat} (hs : s < 8) : ¬ upd (upd (fun _ => 0) (0 * 8 + s) 5) (1 * 8 + t) 7 (0 * 8 + s) = 0 := by
  rw [pk_un (by omega), pk_us]
  decide
theorem zl_at1 {s t : Nat} : ¬ upd (upd (fun _ => 0) (0 * 8 + s) 5) (1 * 8 + t) 7 (1 * 8 + t) = 0 := by
  rw [pk_us]
  decide
theorem zl_at2 {s : Nat} : ¬ upd (fun _ => 0) (0 * 8 + s) 5 (0 * 8 + s) = 0 := by
  rw [pk_us]
  decide
theorem zl_all (lower : Bool) : ∀ s, s < 8 → ∀ t, t < 8 → ∀ d, d < 3 → zl_two lower s t d = true := by
  cases lower
  · exact zl_fa
  · exact zl_ta
theorem zl_law (p0 p1 p2 p3 p4 : Int32) : wpL_lawOf (fun r _ => r = 1) 15 562 () p0 p1 p2 p3 p4 := by
  obtain ⟨s, hs, es⟩ := pk_andE p1 (m := 7) 3 (by decide)
  obtain ⟨t, ht, et⟩ := pk_andE p2 (m := 7) 3 (by decide)
  have hs : s < 8 := hs
  have ht : t < 8 := ht
  refine And.intro (by decide) (And.intro (by decide) (Exists.intro 14 (Exists.intro 544 (And.intro (by decide) (And.intro (by decide) (zl_init ?_))))))
  refine nm_r es (nm_r et ?_)
  refine zl_addM (c := 0) (by decide) ?_
  by_cases hp : p0 = -1 ∨ p0 = 0
  · obtain ⟨lower, e⟩ : ∃ lower : Bool, p0 = if lower then 0 else -1 := hp.elim (fun h => ⟨false, h⟩) (fun h => ⟨true, h⟩)
    subst e
    refine zl_addL (c := 1) (by decide) (by decide) ?_
    refine zl_def (n := 2) (c := 0) (s := s) (by decide) (by decide) hs (by decide) (by decide) (by decide) ?_
    refine zl_def (n := 2) (c := 1) (s := t) (by decide) (by decide) ht (by decide) (by decide) (by decide) ?_
    refine zl_drop (n := 2) (by decide) (fun hz => ?_) (fun c j hc hj e1 e2 hne => ?_)
    · refine zq_tail_s (bP := zl_bp lower s t 0) (zl_all lower s hs t ht 0 (by decide)) (fun r1 r2 r3 r4 h => ?_)
      have F := fun kc ks => zl_fin2 (mc := 15) (ms := 562) (kc := kc) (ks := ks) (p3 := p3) (p4 := p4) (off := 0) hs ht (by decide) ⟨fun z => absurd z (by decide), fun z => absurd (hz 0 s (by decide) hs z.1 z.2) (zl_at0 hs)⟩ ⟨fun z => absurd z (by decide), fun z => absurd (hz 1 t (by decide) ht z.1 z.2) zl_at1⟩ rfl h
      exact br_c (fun _ => F _ _) (fun g => br_c (fun _ => F _ _) (fun g' => absurd hp (fun z => z.elim g g')))
    · rcases zl_hit hc hj hne hs ht with ⟨rfl, rfl⟩ | ⟨rfl, rfl⟩
      · refine zq_tail_s (bP := zl_bp lower j t 1) (zl_all lower j hs t ht 1 (by decide)) (fun r1 r2 r3 r4 h => ?_)
        have F := fun kc ks => zl_fin2 (mc := 15) (ms := 562) (kc := kc) (ks := ks) (p3 := p3) (p4 := p4) (off := 1) hs ht (by decide) ⟨fun _ => ⟨e1, e2⟩, fun _ => rfl⟩ ⟨fun z => absurd z (by decide), fun z => absurd (e1.symm.trans z.1) (by decide)⟩ rfl h
        exact br_c (fun _ => F _ _) (fun g => br_c (fun _ => F _ _) (fun g' => absurd hp (fun z => z.elim g g')))
      · refine zq_tail_s (bP := zl_bp lower s j 2) (zl_all lower s hs j ht 2 (by decide)) (fun r1 r2 r3 r4 h => ?_)
        have F := fun kc ks => zl_fin2 (mc := 15) (ms := 562) (kc := kc) (ks := ks) (p3 := p3) (p4 := p4) (off := 1) hs ht (by decide) ⟨fun z => absurd z (by decide), fun z => absurd (e1.symm.trans z.1) (by decide)⟩ ⟨fun _ => ⟨e1, e2⟩, fun _ => rfl⟩ rfl h
        exact br_c (fun _ => F _ _) (fun g => br_c (fun _ => F _ _) (fun g' => absurd hp (fun z => z.elim g g')))
  · have h1 : ¬ p0 = -1 := fun z => hp (Or.inl z)
    have h0 : ¬ p0 = 0 := fun z => hp (Or.inr z)
    have hc : p0 < 0 ∨ nI 1 ≤ p0 := by
      rcases pk_ix p0 (n := 1) (by decide) with h | h | ⟨j, hj, e⟩
      · exact Or.inl h
      · exact Or.inr h
      · have : j = 0 := by omega
        subst this
        exact absurd e h0
    refine zl_addN (c := 1) h1 hc ?_
    refine zl_def (n := 1) (c := 0) (s := s) (by decide) (by decide) hs (by decide) (by decide) (by decide) ?_
    refine zl_defN (n := 1) (Or.inr (by decide)) ?_
    refine zl_drop (n := 1) (by decide) (fun hz => ?_) (fun c j hc hj e1 e2 hne => ?_)
    · refine zq_tail_s (bP := zl_bq 0) (zl_o s hs 0 (by decide)) (fun r1 r2 r3 r4 h => ?_)
      exact br_f h1 (br_f h0 (zl_fin1 (by decide) h0 ⟨fun z => absurd z (by decide), fun z => absurd (hz 0 s (by decide) hs z.1 z.2) zl_at2⟩ rfl h))
    · obtain ⟨rfl, rfl⟩ := zl_hit1 hc hj hne
      refine zq_tail_s (bP := zl_bq 1) (zl_o j hs 1 (by decide)) (fun r1 r2 r3 r4 h => ?_)
      exact br_f h1 (br_f h0 (zl_fin1 (by decide) h0 ⟨fun _ => ⟨e1, e2⟩, fun _ => rfl⟩ rfl h))
theorem zl_cellA {post : Int32 → Prop} {L k : Nat} {xs : Nat → Int32} (hL : L ≤ 5) (hk : k < 5) (H : ∀ r, post r) : wpL_cellAt post L xs () (nI k) := by
  refine br_c (fun _ => H _) (fun h => ⟨vp_in_nI ?_ (by omega), H _⟩)
  rcases Nat.lt_or_ge k L with z | z
  · exact z
  · exact absurd (nI_le z (by omega)) h
theorem i_vc (xs : Nat → Int32) (L : Nat) (hL : L ≤ 5) : wpL_law (fun r => r = 1) L xs :=
  zl_cellA (k := 0) hL (by decide) (fun r1 => zl_cellA (k := 1) hL (by decide) (fun r2 => zl_cellA (k := 2) hL (by decide) (fun r3 => zl_cellA (k := 3) hL (by decide) (fun r4 => zl_cellA (k := 4) hL (by decide) (fun r5 =>
    Exists.intro 15 (Exists.intro 562 ⟨by decide, by decide, zl_law r1 r2 r3 r4 r5⟩))))))
end
