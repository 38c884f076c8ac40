section
/-- an array -/
abbrev zb_A : Type := Nat → Int32
/-- a number is worked out to a numeral, then handed on -/
def zb_fn (n : Nat) (k : Nat → Bool) : Bool := Nat.rec (motive := fun _ => Bool) (k 0) (fun m _ => k (m + 1)) n
theorem zb_fn_eq (n : Nat) (k : Nat → Bool) : zb_fn n k = k n := by cases n <;> rfl
/-- an int is worked out, then handed on -/
def zb_nm (x : Int32) (k : Int32 → Bool) : Bool := zb_fn x.toBitVec.toNat (fun n => k (Int32.ofNat n))
theorem zb_of (x : Int32) : Int32.ofNat x.toBitVec.toNat = x := by
  apply Int32.toBitVec.inj
  rw [Int32.toBitVec_ofNat']
  rw [BitVec.ofNat_toNat, BitVec.setWidth_eq]
theorem zb_nm_eq (x : Int32) (k : Int32 → Bool) : zb_nm x k = k x := by
  unfold zb_nm
  rw [zb_fn_eq, zb_of]
/-- a cell is written: its place and its value are worked out first -/
def zb_up (a : zb_A) (i : Nat) (v : Int32) (k : zb_A → Bool) : Bool := zb_fn i (fun j => zb_nm v (fun y => k (upd a j y)))
theorem zb_up_eq (a : zb_A) (i : Nat) (v : Int32) (k : zb_A → Bool) : zb_up a i v k = k (upd a i v) := by
  unfold zb_up
  rw [zb_fn_eq, zb_nm_eq]
def zb_in (i : Int32) (n : Nat) : Bool := !(decide (i < 0) || decide (n ≤ i.toNatClampNeg))
theorem zb_in_of {i : Int32} {n : Nat} (h : zb_in i n = true) : vp_in i n := by
  unfold zb_in at h
  unfold vp_in
  intro c
  rcases c with c | c
  · rw [decide_eq_true c, Bool.true_or] at h
    exact absurd h (by decide)
  · rw [decide_eq_true c, Bool.or_true] at h
    exact absurd h (by decide)
/-- an answer must be this one -/
def zb_eq (r c : Int32) (k : Bool) : Bool := decide (r = c) && k
/-- the symbols seen through V: the code that stands in a cell is read as V of it -/
def zb_vw (V : Int32 → Int32) (a : zb_A) : zb_A := fun j => V (a j)

theorem zs_if {c : Prop} [Decidable c] {A B : Bool} {P Q : Prop} (h : (if c then A else B) = true) (f : A = true → P) (g : B = true → Q) : (c → P) ∧ (¬ c → Q) :=
  ⟨fun hc => f (by rw [if_pos hc] at h; exact h), fun hc => g (by rw [if_neg hc] at h; exact h)⟩
theorem zs_ife {c d : Prop} [Decidable c] {A B : Bool} {P Q : Prop} (e : d ↔ c) (h : (if c then A else B) = true) (f : A = true → P) (g : B = true → Q) : (d → P) ∧ (¬ d → Q) :=
  ⟨fun hd => f (by rw [if_pos (e.mp hd)] at h; exact h), fun hd => g (by rw [if_neg (fun hc => hd (e.mpr hc))] at h; exact h)⟩
theorem zs_in {i : Int32} {n : Nat} {A : Bool} {P : Prop} (h : (zb_in i n && A) = true) (f : A = true → P) : vp_in i n ∧ P := by
  rw [Bool.and_eq_true] at h
  exact ⟨zb_in_of h.1, f h.2⟩
theorem zs_nm {e : Int32} {K : Int32 → Bool} {P : Int32 → Prop} (h : zb_nm e K = true) (f : K e = true → P e) : ∀ x, x = e → P x := by
  intro x hx
  rw [hx]
  rw [zb_nm_eq] at h
  exact f h
theorem zs_up {a : zb_A} {i : Nat} {v : Int32} {K : zb_A → Bool} {P : zb_A → Prop} (h : zb_up a i v K = true) (f : K (upd a i v) = true → P (upd a i v)) : ∀ x, x = upd a i v → P x := by
  intro x hx
  rw [hx]
  rw [zb_up_eq] at h
  exact f h
theorem zb_vw_upd (V : Int32 → Int32) (a : zb_A) (i : Nat) (s : Int32) : upd (zb_vw V a) i (V s) = zb_vw V (upd a i s) := by
  funext j
  unfold zb_vw upd
  by_cases h : j = i
  · rw [if_pos h, if_pos h]
  · rw [if_neg h, if_neg h]
theorem zs_upV {V : Int32 → Int32} {a : zb_A} {i : Nat} {s t : Int32} {K : zb_A → Bool} {P : zb_A → Prop} (h : zb_up a i s K = true) (e : t = V s) (f : K (upd a i s) = true → P (zb_vw V (upd a i s))) : ∀ x, x = upd (zb_vw V a) i t → P x := by
  intro x hx
  rw [hx, e, zb_vw_upd]
  rw [zb_up_eq] at h
  exact f h
theorem zs_eq {r c : Int32} {K : Bool} {P Q : Prop} (h : zb_eq r c K = true) (f : K = true → P) : (r = c → P) ∧ (¬ r = c → Q) := by
  unfold zb_eq at h
  rw [Bool.and_eq_true] at h
  exact ⟨fun _ => f h.2, fun n => absurd (of_decide_eq_true h.1) n⟩
theorem zs_eqV {V : Int32 → Int32} {r c t : Int32} {K : Bool} {P Q : Prop} (h : zb_eq r c K = true) (e : V c = t) (f : K = true → P) : (V r = t → P) ∧ (¬ V r = t → Q) := by
  unfold zb_eq at h
  rw [Bool.and_eq_true] at h
  refine ⟨fun _ => f h.2, fun n => absurd ?_ n⟩
  rw [of_decide_eq_true h.1, e]

/-! the methods, as programs that answer yes or no -/
def zb_init_75 (p : zb_A → Bool) : Nat → Int32 → zb_A → Bool
  | 0 => fun _ _ => false
  | n + 1 => fun x1 a9 => if 3 ≤ x1 then p a9 else zb_in ((x1 * 31) + 30) 93 && zb_up a9 ((x1 * 31) + 30).toNatClampNeg 30 (fun b9 => zb_nm (x1 + 1) (fun y1 => zb_init_75 p n y1 b9))
def zb_isReplica (p : Int32 → Bool) (x : Int32) : Bool := if x < 0 then p 0 else if 3 ≤ x then p 0 else p 1
def zb_isShown (p : Int32 → Bool) (a7 : zb_A) (x e : Int32) : Bool := zb_in x 3 && (if ((a7 x.toNatClampNeg) >>> (e &&& 31)) &&& 1 = 0 then p 1 else p 0)
def zb_knows (p : Int32 → Bool) (a6 : zb_A) (x e : Int32) : Bool := zb_in x 3 && (if ((a6 x.toNatClampNeg) >>> (e &&& 31)) &&& 1 = 0 then p 0 else p 1)
def zb_length_55 (J : Int32 → Int32 → Int32 → Bool) (x1 x3 x4 z0 z1 : Int32) (a9 : zb_A) : Bool := zb_nm (z1 + z0) (fun y2 => zb_in ((x1 * 31) + x3) 93 && zb_nm (a9 ((x1 * 31) + x3).toNatClampNeg) (fun y3 => zb_nm (x4 + 1) (fun y4 => J y2 y3 y4)))
def zb_length_27 (p : Int32 → Bool) (x1 : Int32) (a7 a9 : zb_A) : Nat → Int32 → Int32 → Int32 → Bool
  | 0 => fun _ _ _ => false
  | n + 1 => fun x2 x3 x4 => if 30 ≤ x4 then p x2 else if x3 = 30 then p x2 else zb_isShown (fun r => if r = 0 then zb_length_55 (zb_length_27 p x1 a7 a9 n) x1 x3 x4 0 x2 a9 else zb_length_55 (zb_length_27 p x1 a7 a9 n) x1 x3 x4 1 x2 a9) a7 x1 x3
def zb_length (p : Int32 → Bool) (a7 a9 : zb_A) (x : Int32) : Bool := zb_isReplica (fun r => if r = 0 then p (-1) else zb_in ((x * 31) + 30) 93 && zb_nm (a9 ((x * 31) + 30).toNatClampNeg) (fun y3 => zb_length_27 p x a7 a9 40 0 y3 0)) x
def zb_elementAt_51 (J : Int32 → Int32 → Int32 → Bool) (x1 x3 x4 x5 : Int32) (a9 : zb_A) : Bool := zb_in ((x1 * 31) + x3) 93 && zb_nm (a9 ((x1 * 31) + x3).toNatClampNeg) (fun y3 => zb_nm (x5 + 1) (fun y5 => J y3 x4 y5))
def zb_elementAt_19 (p : Int32 → Bool) (x1 : Int32) (a7 a9 : zb_A) : Nat → Int32 → Int32 → Int32 → Bool
  | 0 => fun _ _ _ => false
  | n + 1 => fun x3 x4 x5 => if 30 ≤ x5 then p 30 else if x3 = 30 then p 30 else zb_isShown (fun r => if r = 0 then zb_elementAt_51 (zb_elementAt_19 p x1 a7 a9 n) x1 x3 x4 x5 a9 else if x4 = 0 then p x3 else zb_nm (x4 + (-1)) (fun y4 => zb_elementAt_51 (zb_elementAt_19 p x1 a7 a9 n) x1 x3 y4 x5 a9)) a7 x1 x3
def zb_elementAt (p : Int32 → Bool) (a7 a9 : zb_A) (x q : Int32) : Bool := zb_in ((x * 31) + 30) 93 && zb_nm (a9 ((x * 31) + 30).toNatClampNeg) (fun y3 => zb_elementAt_19 p x a7 a9 40 y3 q 0)
def zb_isGreater (p : Int32 → Bool) (a3 a4 : zb_A) (e f : Int32) : Bool := zb_in e 30 && (zb_in f 30 && (if a3 f.toNatClampNeg < a3 e.toNatClampNeg then p 1 else zb_in e 30 && (zb_in f 30 && (if a3 e.toNatClampNeg = a3 f.toNatClampNeg then zb_in e 30 && (zb_in f 30 && (if a4 e.toNatClampNeg ≤ a4 f.toNatClampNeg then p 0 else p 1)) else p 0))))
def zb_integrate_47 (p : zb_A → Bool) (x1 x2 x3 x5 : Int32) (a9 : zb_A) : Bool := zb_in ((x1 * 31) + x2) 93 && zb_up a9 ((x1 * 31) + x2).toNatClampNeg x5.toInt8.toInt32 (fun b9 => zb_in ((x1 * 31) + x3) 93 && zb_up b9 ((x1 * 31) + x3).toNatClampNeg x2.toInt8.toInt32 (fun c9 => p c9))
def zb_integrate_10 (p : zb_A → Bool) (x1 x2 : Int32) (a3 a4 a9 : zb_A) : Nat → Int32 → Int32 → Bool
  | 0 => fun _ _ => false
  | n + 1 => fun x3 x4 => if 30 ≤ x4 then p a9 else zb_in ((x1 * 31) + x3) 93 && zb_nm (a9 ((x1 * 31) + x3).toNatClampNeg) (fun y5 => if y5 = 30 then zb_integrate_47 p x1 x2 x3 y5 a9 else zb_isGreater (fun r => if r = 0 then zb_nm (x4 + 1) (fun y4 => zb_integrate_10 p x1 x2 a3 a4 a9 n y5 y4) else zb_integrate_47 p x1 x2 x3 y5 a9) a3 a4 x2 y5)
def zb_integrate (p : zb_A → Bool) (a2 a3 a4 a9 : zb_A) (x e : Int32) : Bool := zb_in e 30 && zb_nm (a2 e.toNatClampNeg) (fun y3 => zb_integrate_10 p x e a3 a4 a9 40 y3 0)
def zb_take (p : zb_A → zb_A → zb_A → zb_A → Bool) (a1 a2 a3 a4 a6 a7 a8 a9 : zb_A) (x e : Int32) : Bool :=
  zb_in x 3 && (zb_in x 3 && zb_up a6 x.toNatClampNeg ((a6 x.toNatClampNeg) ||| ((1 : Int32) <<< (e &&& 31))) (fun b6 => zb_in e 30 &&
    (if 0 ≤ a1 e.toNatClampNeg then zb_in e 30 && (zb_in x 3 && (if a3 e.toNatClampNeg ≤ a8 x.toNatClampNeg then zb_integrate (fun b9 => p b6 a7 a8 b9) a2 a3 a4 a9 x e else zb_in e 30 && (zb_in x 3 && zb_up a8 x.toNatClampNeg (vp_nar .byte (a3 e.toNatClampNeg)) (fun b8 => zb_integrate (fun b9 => p b6 a7 b8 b9) a2 a3 a4 a9 x e))))
     else zb_in x 3 && (zb_in e 30 && (zb_in x 3 && zb_up a7 x.toNatClampNeg ((a7 x.toNatClampNeg) ||| ((1 : Int32) <<< ((a2 e.toNatClampNeg) &&& 31))) (fun b7 => p b6 b7 a8 a9))))))
/-- what is asked of an answer and of a state -/
abbrev zb_Q : Type := Int32 → Int32 → zb_A → zb_A → zb_A → zb_A → zb_A → zb_A → zb_A → zb_A → zb_A → Bool
def zb_make_68 (p : zb_Q) (x1 x4 z0 z1 f0 : Int32) (a1 a2 a3 a4 a5 a6 a7 a8 a9 : zb_A) : Bool := zb_in z1 30 && zb_up a3 z1.toNatClampNeg z0.toInt8.toInt32 (fun b3 => zb_nm (f0 + 1) (fun g0 => zb_take (fun b6 b7 b8 b9 => p x4 g0 a1 a2 b3 a4 a5 b6 b7 b8 b9) a1 a2 b3 a4 a6 a7 a8 a9 x1 x4))
/-- s: the code that stands for the symbol -/
def zb_make (p : zb_Q) (f0 : Int32) (a1 a2 a3 a4 a5 a6 a7 a8 a9 : zb_A) (x s o : Int32) : Bool :=
  zb_in f0 30 && zb_up a1 f0.toNatClampNeg s (fun b1 => zb_in f0 30 && zb_up a2 f0.toNatClampNeg o.toInt8.toInt32 (fun b2 => zb_in f0 30 && zb_up a4 f0.toNatClampNeg x.toInt8.toInt32 (fun b4 => zb_in x 3 && (zb_in f0 30 && zb_up a5 f0.toNatClampNeg (a6 x.toNatClampNeg) (fun b5 =>
    if 0 ≤ s then zb_in x 3 && zb_make_68 p x f0 ((a8 x.toNatClampNeg) + 1) f0 f0 b1 b2 a3 b4 b5 a6 a7 a8 a9 else zb_make_68 p x f0 0 f0 f0 b1 b2 a3 b4 b5 a6 a7 a8 a9)))))
def zb_put (p : zb_Q) (f0 : Int32) (a1 a2 a3 a4 a5 a6 a7 a8 a9 : zb_A) (x q s : Int32) : Bool :=
  zb_isReplica (fun r => if r = 0 then p (-1) f0 a1 a2 a3 a4 a5 a6 a7 a8 a9 else if s < 0 then p (-1) f0 a1 a2 a3 a4 a5 a6 a7 a8 a9 else if 25 < s then p (-1) f0 a1 a2 a3 a4 a5 a6 a7 a8 a9 else if q < 0 then p (-1) f0 a1 a2 a3 a4 a5 a6 a7 a8 a9 else
    zb_length (fun l => if q ≤ l then (if f0 < 30 then (if q = 0 then zb_make p f0 a1 a2 a3 a4 a5 a6 a7 a8 a9 x s 30 else zb_elementAt (fun o => zb_make p f0 a1 a2 a3 a4 a5 a6 a7 a8 a9 x s o) a7 a9 x (q - 1)) else p (-2) f0 a1 a2 a3 a4 a5 a6 a7 a8 a9) else p (-1) f0 a1 a2 a3 a4 a5 a6 a7 a8 a9) a7 a9 x) x
def zb_erase (p : zb_Q) (f0 : Int32) (a1 a2 a3 a4 a5 a6 a7 a8 a9 : zb_A) (x q : Int32) : Bool :=
  zb_isReplica (fun r => if r = 0 then p (-1) f0 a1 a2 a3 a4 a5 a6 a7 a8 a9 else if q < 0 then p (-1) f0 a1 a2 a3 a4 a5 a6 a7 a8 a9 else
    zb_length (fun l => if q < l then (if f0 < 30 then zb_elementAt (fun o => zb_make p f0 a1 a2 a3 a4 a5 a6 a7 a8 a9 x (-1) o) a7 a9 x q else p (-2) f0 a1 a2 a3 a4 a5 a6 a7 a8 a9) else p (-1) f0 a1 a2 a3 a4 a5 a6 a7 a8 a9) a7 a9 x) x
def zb_catchUp_26 (p : Int32 → zb_A → zb_A → zb_A → zb_A → Bool) (x1 x2 f0 : Int32) (a1 a2 a3 a4 : zb_A) : Nat → Int32 → Int32 → zb_A → zb_A → zb_A → zb_A → Bool
  | 0 => fun _ _ _ _ _ _ => false
  | n + 1 => fun x3 x4 a6 a7 a8 a9 => if f0 ≤ x4 then p x3 a6 a7 a8 a9 else
      zb_knows (fun r => if r = 0 then zb_nm (x4 + 1) (fun y4 => zb_catchUp_26 p x1 x2 f0 a1 a2 a3 a4 n x3 y4 a6 a7 a8 a9) else
        zb_knows (fun s => if s = 0 then zb_take (fun b6 b7 b8 b9 => zb_nm (x3 + 1) (fun y3 => zb_nm (x4 + 1) (fun y4 => zb_catchUp_26 p x1 x2 f0 a1 a2 a3 a4 n y3 y4 b6 b7 b8 b9))) a1 a2 a3 a4 a6 a7 a8 a9 x1 x4
          else zb_nm (x4 + 1) (fun y4 => zb_catchUp_26 p x1 x2 f0 a1 a2 a3 a4 n x3 y4 a6 a7 a8 a9)) a6 x1 x4) a6 x2 x4
def zb_catchUp (p : Int32 → zb_A → zb_A → zb_A → zb_A → Bool) (f0 : Int32) (a1 a2 a3 a4 a6 a7 a8 a9 : zb_A) (x y : Int32) : Bool :=
  zb_isReplica (fun r => if r = 0 then p (-1) a6 a7 a8 a9 else zb_isReplica (fun s => if s = 0 then p (-1) a6 a7 a8 a9 else if x = y then p (-1) a6 a7 a8 a9 else zb_catchUp_26 p x y f0 a1 a2 a3 a4 40 0 0 a6 a7 a8 a9) y) x
def zb_madeBy (p : Int32 → Bool) (a7 a9 : zb_A) (x q : Int32) : Bool := zb_isReplica (fun r => if r = 0 then p (-1) else if 0 ≤ q then zb_elementAt (fun e => if e = 30 then p (-1) else p e) a7 a9 x q else p (-1)) x
def zb_at (p : Int32 → Bool) (a1 a7 a9 : zb_A) (x q : Int32) : Bool := zb_madeBy (fun e => if 0 ≤ e then zb_in e 30 && p (a1 e.toNatClampNeg) else p (-1)) a7 a9 x q
def zb_known (p : Int32 → Bool) (a6 : zb_A) (x : Int32) : Bool := zb_isReplica (fun r => if r = 0 then p 0 else zb_in x 3 && p (a6 x.toNatClampNeg)) x
def zb_clock (p : Int32 → Bool) (a8 : zb_A) (x : Int32) : Bool := zb_isReplica (fun r => if r = 0 then p (-1) else zb_in x 3 && p (a8 x.toNatClampNeg)) x
def zb_elements_13 (p : Int32 → Bool) (x1 f0 : Int32) (a1 a6 : zb_A) : Nat → Int32 → Int32 → Bool
  | 0 => fun _ _ => false
  | n + 1 => fun x2 x3 => if f0 ≤ x3 then p x2 else
      zb_knows (fun r => if r = 0 then zb_nm (x2 + 0) (fun y2 => zb_nm (x3 + 1) (fun y3 => zb_elements_13 p x1 f0 a1 a6 n y2 y3)) else
        zb_in x3 30 && (if a1 x3.toNatClampNeg < 0 then zb_nm (x2 + 0) (fun y2 => zb_nm (x3 + 1) (fun y3 => zb_elements_13 p x1 f0 a1 a6 n y2 y3)) else zb_nm (x2 + 1) (fun y2 => zb_nm (x3 + 1) (fun y3 => zb_elements_13 p x1 f0 a1 a6 n y2 y3)))) a6 x1 x3
def zb_elements (p : Int32 → Bool) (f0 : Int32) (a1 a6 : zb_A) (x : Int32) : Bool := zb_isReplica (fun r => if r = 0 then p (-1) else zb_elements_13 p x f0 a1 a6 40 0 0) x
end
section
section
variable {f0 : Int32} {a1 a2 a3 a4 a5 a6 a7 a8 a9 : Nat → Int32}
theorem zs_init_75 {p : zb_A → Bool} {post : St2 → Prop} {mc ms kc ks : Nat} (H : ∀ b9, p b9 = true → post (f0, a1, a2, a3, a4, a5, a6, a7, a8, b9)) :
    ∀ (n : Nat) (x1 : Int32) (a9 : Nat → Int32), zb_init_75 p n x1 a9 = true → wX_init_75 post mc ms kc ks f0 n x1 a1 a2 a3 a4 a5 a6 a7 a8 a9 := by
  intro n
  induction n with
  | zero => intro x1 a9 h; exact absurd h Bool.false_ne_true
  | succ n ih =>
    intro x1 a9 h
    exact zs_if h (H _) (fun h => zs_in h (fun h => zs_up h (fun h => zs_nm h (fun h => ih _ _ h))))
theorem zs_isReplica {p : Int32 → Bool} {post : Int32 → Prop} {x : Int32} (h : zb_isReplica p x = true) (H : ∀ r, p r = true → post r) : wpX_isReplica post () x :=
  zs_if h (H _) (fun h => zs_if h (H _) (H _))
theorem zs_isShown {p : Int32 → Bool} {post : Int32 → Prop} {x e : Int32} (h : zb_isShown p a7 x e = true) (H : ∀ r, p r = true → post r) : wpX_isShown post (f0, a1, a2, a3, a4, a5, a6, a7, a8, a9) x e :=
  zs_in h (fun h => zs_if h (H _) (H _))
theorem zs_knows {p : Int32 → Bool} {post : Int32 → Prop} {x e : Int32} (h : zb_knows p a6 x e = true) (H : ∀ r, p r = true → post r) : wpX_knows post (f0, a1, a2, a3, a4, a5, a6, a7, a8, a9) x e :=
  zs_in h (fun h => zs_if h (H _) (H _))
theorem zs_length_55 {J : Int32 → Int32 → Int32 → Bool} {J' : Int32 → Int32 → Int32 → Prop} {post : Int32 → Prop} {x1 x3 x4 z0 z1 : Int32} (h : zb_length_55 J x1 x3 x4 z0 z1 a9 = true) (H : ∀ a b c, J a b c = true → J' a b c) : wX_length_55 post J' x1 x3 x4 z0 z1 f0 a1 a2 a3 a4 a5 a6 a7 a8 a9 :=
  zs_nm h (fun h => zs_in h (fun h => zs_nm h (fun h => zs_nm h (fun h => H _ _ _ h))))
theorem zs_length_27 {p : Int32 → Bool} {post : Int32 → Prop} {x1 : Int32} (H : ∀ r, p r = true → post r) :
    ∀ (n : Nat) (x2 x3 x4 : Int32), zb_length_27 p x1 a7 a9 n x2 x3 x4 = true → wX_length_27 post x1 f0 a1 a2 a3 a4 a5 a6 a7 a8 a9 n x2 x3 x4 := by
  intro n
  induction n with
  | zero => intro x2 x3 x4 h; exact absurd h Bool.false_ne_true
  | succ n ih =>
    intro x2 x3 x4 h
    exact zs_if h (H _) (fun h => zs_if h (H _) (fun h => zs_isShown h (fun r h => zs_if h (fun h => zs_length_55 h ih) (fun h => zs_length_55 h ih))))
theorem zs_length {p : Int32 → Bool} {post : Int32 → Prop} {x : Int32} (h : zb_length p a7 a9 x = true) (H : ∀ r, p r = true → post r) : wpX_length post (f0, a1, a2, a3, a4, a5, a6, a7, a8, a9) x := by
  unfold wpX_length
  exact zs_isReplica h (fun r h => zs_if h (H _) (fun h => zs_in h (fun h => zs_nm h (fun h => ⟨40, zs_length_27 H _ _ _ _ h⟩))))
theorem zs_elementAt_51 {J : Int32 → Int32 → Int32 → Bool} {J' : Int32 → Int32 → Int32 → Prop} {post : Int32 → Prop} {x1 x3 x4 x5 : Int32} (h : zb_elementAt_51 J x1 x3 x4 x5 a9 = true) (H : ∀ a b c, J a b c = true → J' a b c) : wX_elementAt_51 post J' x1 x3 x4 x5 f0 a1 a2 a3 a4 a5 a6 a7 a8 a9 :=
  zs_in h (fun h => zs_nm h (fun h => zs_nm h (fun h => H _ _ _ h)))
theorem zs_elementAt_19 {p : Int32 → Bool} {post : Int32 → Prop} {x1 : Int32} (H : ∀ r, p r = true → post r) :
    ∀ (n : Nat) (x3 x4 x5 : Int32), zb_elementAt_19 p x1 a7 a9 n x3 x4 x5 = true → wX_elementAt_19 post x1 f0 a1 a2 a3 a4 a5 a6 a7 a8 a9 n x3 x4 x5 := by
  intro n
  induction n with
  | zero => intro x3 x4 x5 h; exact absurd h Bool.false_ne_true
  | succ n ih =>
    intro x3 x4 x5 h
    exact zs_if h (H _) (fun h => zs_if h (H _) (fun h => zs_isShown h (fun r h => zs_if h (fun h => zs_elementAt_51 h ih) (fun h => zs_if h (H _) (fun h => zs_nm h (fun h => zs_elementAt_51 h ih))))))
theorem zs_elementAt {p : Int32 → Bool} {post : Int32 → Prop} {x q : Int32} (h : zb_elementAt p a7 a9 x q = true) (H : ∀ r, p r = true → post r) : wpX_elementAt post (f0, a1, a2, a3, a4, a5, a6, a7, a8, a9) x q :=
  zs_in h (fun h => zs_nm h (fun h => ⟨40, zs_elementAt_19 H _ _ _ _ h⟩))
theorem zs_isGreater {p : Int32 → Bool} {post : Int32 → Prop} {e f : Int32} (h : zb_isGreater p a3 a4 e f = true) (H : ∀ r, p r = true → post r) : wpX_isGreater post (f0, a1, a2, a3, a4, a5, a6, a7, a8, a9) e f :=
  zs_in h (fun h => zs_in h (fun h => zs_if h (H _) (fun h => zs_in h (fun h => zs_in h (fun h => zs_if h (fun h => zs_in h (fun h => zs_in h (fun h => zs_if h (H _) (H _)))) (H _))))))
theorem zs_integrate_47 {p : zb_A → Bool} {post : St2 → Prop} {x1 x2 x3 x5 : Int32} (h : zb_integrate_47 p x1 x2 x3 x5 a9 = true) (H : ∀ b9, p b9 = true → post (f0, a1, a2, a3, a4, a5, a6, a7, a8, b9)) : wX_integrate_47 post x1 x2 x3 x5 f0 a1 a2 a3 a4 a5 a6 a7 a8 a9 :=
  zs_in h (fun h => zs_up h (fun h => zs_in h (fun h => zs_up h (fun h => H _ h))))
theorem zs_integrate_10 {p : zb_A → Bool} {post : St2 → Prop} {x1 x2 : Int32} (H : ∀ b9, p b9 = true → post (f0, a1, a2, a3, a4, a5, a6, a7, a8, b9)) :
    ∀ (n : Nat) (x3 x4 : Int32), zb_integrate_10 p x1 x2 a3 a4 a9 n x3 x4 = true → wX_integrate_10 post x1 x2 f0 a1 a2 a3 a4 a5 a6 a7 a8 a9 n x3 x4 := by
  intro n
  induction n with
  | zero => intro x3 x4 h; exact absurd h Bool.false_ne_true
  | succ n ih =>
    intro x3 x4 h
    exact zs_if h (H _) (fun h => zs_in h (fun h => zs_nm h (fun h => zs_if h (fun h => zs_integrate_47 h H) (fun h => zs_isGreater h (fun r h => zs_if h (fun h => zs_nm h (fun h => ih _ _ h)) (fun h => zs_integrate_47 h H))))))
theorem zs_integrate {p : zb_A → Bool} {post : St2 → Prop} {x e : Int32} (h : zb_integrate p a2 a3 a4 a9 x e = true) (H : ∀ b9, p b9 = true → post (f0, a1, a2, a3, a4, a5, a6, a7, a8, b9)) : wpX_integrate post (f0, a1, a2, a3, a4, a5, a6, a7, a8, a9) x e :=
  zs_in h (fun h => zs_nm h (fun h => ⟨40, zs_integrate_10 H _ _ _ h⟩))
theorem zs_take_66 {p : zb_A → Bool} {post : St2 → Prop} {x e : Int32} (h : zb_integrate p a2 a3 a4 a9 x e = true) (H : ∀ b9, p b9 = true → post (f0, a1, a2, a3, a4, a5, a6, a7, a8, b9)) : wX_take_66 post x e f0 a1 a2 a3 a4 a5 a6 a7 a8 a9 :=
  zs_integrate h H
theorem zs_take {V : Int32 → Int32} {p : zb_A → zb_A → zb_A → zb_A → Bool} {post : St2 → Prop} {x e : Int32} (hV : ∀ v, 0 ≤ V v ↔ 0 ≤ v) (h : zb_take p a1 a2 a3 a4 a6 a7 a8 a9 x e = true)
    (H : ∀ b6 b7 b8 b9, p b6 b7 b8 b9 = true → post (f0, zb_vw V a1, a2, a3, a4, a5, b6, b7, b8, b9)) : wpX_take post (f0, zb_vw V a1, a2, a3, a4, a5, a6, a7, a8, a9) x e :=
  zs_in h (fun h => zs_in h (fun h => zs_up h (fun h => zs_in h (fun h => zs_ife (hV _) h
    (fun h => zs_in h (fun h => zs_in h (fun h => zs_if h (fun h => zs_take_66 h (fun _ h => H _ _ _ _ h)) (fun h => zs_in h (fun h => zs_in h (fun h => zs_up h (fun h => zs_take_66 h (fun _ h => H _ _ _ _ h))))))))
    (fun h => zs_in h (fun h => zs_in h (fun h => zs_in h (fun h => zs_up h (fun h => H _ _ _ _ h)))))))))
theorem zs_make_68 {V : Int32 → Int32} {p : zb_Q} {post : Int32 → St2 → Prop} {x1 x4 z0 z1 : Int32} (hV : ∀ v, 0 ≤ V v ↔ 0 ≤ v) (h : zb_make_68 p x1 x4 z0 z1 f0 a1 a2 a3 a4 a5 a6 a7 a8 a9 = true)
    (H : ∀ r f0 a1 a2 a3 a4 a5 a6 a7 a8 a9, p r f0 a1 a2 a3 a4 a5 a6 a7 a8 a9 = true → post r (f0, zb_vw V a1, a2, a3, a4, a5, a6, a7, a8, a9)) : wX_make_68 post x1 x4 z0 z1 f0 (zb_vw V a1) a2 a3 a4 a5 a6 a7 a8 a9 :=
  zs_in h (fun h => zs_up h (fun h => zs_nm h (fun h => zs_take hV h (fun _ _ _ _ h => H _ _ _ _ _ _ _ _ _ _ _ h))))
theorem zs_make {V : Int32 → Int32} {p : zb_Q} {post : Int32 → St2 → Prop} {x s t o : Int32} (hV : ∀ v, 0 ≤ V v ↔ 0 ≤ v) (ht : t.toInt8.toInt32 = V s) (hs : 0 ≤ t ↔ 0 ≤ s) (h : zb_make p f0 a1 a2 a3 a4 a5 a6 a7 a8 a9 x s o = true)
    (H : ∀ r f0 a1 a2 a3 a4 a5 a6 a7 a8 a9, p r f0 a1 a2 a3 a4 a5 a6 a7 a8 a9 = true → post r (f0, zb_vw V a1, a2, a3, a4, a5, a6, a7, a8, a9)) : wpX_make post (f0, zb_vw V a1, a2, a3, a4, a5, a6, a7, a8, a9) x t o :=
  zs_in h (fun h => zs_upV h ht (fun h => zs_in h (fun h => zs_up h (fun h => zs_in h (fun h => zs_up h (fun h => zs_in h (fun h => zs_in h (fun h => zs_up h (fun h => zs_ife hs h
    (fun h => zs_in h (fun h => zs_make_68 hV h H)) (fun h => zs_make_68 hV h H))))))))))
theorem zs_put_61 {V : Int32 → Int32} {p : zb_Q} {post : Int32 → St2 → Prop} {x s t o : Int32} (hV : ∀ v, 0 ≤ V v ↔ 0 ≤ v) (ht : t.toInt8.toInt32 = V s) (hs : 0 ≤ t ↔ 0 ≤ s) (h : zb_make p f0 a1 a2 a3 a4 a5 a6 a7 a8 a9 x s o = true)
    (H : ∀ r f0 a1 a2 a3 a4 a5 a6 a7 a8 a9, p r f0 a1 a2 a3 a4 a5 a6 a7 a8 a9 = true → post r (f0, zb_vw V a1, a2, a3, a4, a5, a6, a7, a8, a9)) : wX_put_61 post x t o f0 (zb_vw V a1) a2 a3 a4 a5 a6 a7 a8 a9 :=
  zs_make hV ht hs h H
theorem zs_put {V : Int32 → Int32} {p : zb_Q} {post : Int32 → St2 → Prop} {x q s t : Int32} (hV : ∀ v, 0 ≤ V v ↔ 0 ≤ v) (ht : t.toInt8.toInt32 = V s) (hs : 0 ≤ t ↔ 0 ≤ s) (h0 : t < 0 ↔ s < 0) (h1 : 25 < t ↔ 25 < s) (h : zb_put p f0 a1 a2 a3 a4 a5 a6 a7 a8 a9 x q s = true)
    (H : ∀ r f0 a1 a2 a3 a4 a5 a6 a7 a8 a9, p r f0 a1 a2 a3 a4 a5 a6 a7 a8 a9 = true → post r (f0, zb_vw V a1, a2, a3, a4, a5, a6, a7, a8, a9)) : wpX_put post (f0, zb_vw V a1, a2, a3, a4, a5, a6, a7, a8, a9) x q t :=
  zs_isReplica h (fun r h => zs_if h (fun h => H _ _ _ _ _ _ _ _ _ _ _ h) (fun h => zs_ife h0 h (fun h => H _ _ _ _ _ _ _ _ _ _ _ h) (fun h => zs_ife h1 h (fun h => H _ _ _ _ _ _ _ _ _ _ _ h) (fun h => zs_if h (fun h => H _ _ _ _ _ _ _ _ _ _ _ h)
    (fun h => zs_length h (fun l h => zs_if h (fun h => zs_if h (fun h => zs_if h (fun h => zs_put_61 hV ht hs h H) (fun h => zs_elementAt h (fun o h => zs_put_61 hV ht hs h H))) (fun h => H _ _ _ _ _ _ _ _ _ _ _ h)) (fun h => H _ _ _ _ _ _ _ _ _ _ _ h)))))))
theorem zs_erase {V : Int32 → Int32} {p : zb_Q} {post : Int32 → St2 → Prop} {x q : Int32} (hV : ∀ v, 0 ≤ V v ↔ 0 ≤ v) (hm : V (-1) = -1) (h : zb_erase p f0 a1 a2 a3 a4 a5 a6 a7 a8 a9 x q = true)
    (H : ∀ r f0 a1 a2 a3 a4 a5 a6 a7 a8 a9, p r f0 a1 a2 a3 a4 a5 a6 a7 a8 a9 = true → post r (f0, zb_vw V a1, a2, a3, a4, a5, a6, a7, a8, a9)) : wpX_erase post (f0, zb_vw V a1, a2, a3, a4, a5, a6, a7, a8, a9) x q :=
  zs_isReplica h (fun r h => zs_if h (fun h => H _ _ _ _ _ _ _ _ _ _ _ h) (fun h => zs_if h (fun h => H _ _ _ _ _ _ _ _ _ _ _ h)
    (fun h => zs_length h (fun l h => zs_if h (fun h => zs_if h (fun h => zs_elementAt h (fun o h => zs_make hV (s := -1) (by rw [hm]; decide) Iff.rfl h H)) (fun h => H _ _ _ _ _ _ _ _ _ _ _ h)) (fun h => H _ _ _ _ _ _ _ _ _ _ _ h)))))
theorem zs_catchUp_26 {V : Int32 → Int32} {p : Int32 → zb_A → zb_A → zb_A → zb_A → Bool} {post : Int32 → St2 → Prop} {x1 x2 : Int32} (hV : ∀ v, 0 ≤ V v ↔ 0 ≤ v)
    (H : ∀ r a6 a7 a8 a9, p r a6 a7 a8 a9 = true → post r (f0, zb_vw V a1, a2, a3, a4, a5, a6, a7, a8, a9)) :
    ∀ (n : Nat) (x3 x4 : Int32) (a6 a7 a8 a9 : Nat → Int32), zb_catchUp_26 p x1 x2 f0 a1 a2 a3 a4 n x3 x4 a6 a7 a8 a9 = true → wX_catchUp_26 post x1 x2 n x3 x4 f0 (zb_vw V a1) a2 a3 a4 a5 a6 a7 a8 a9 := by
  intro n
  induction n with
  | zero => intro x3 x4 a6 a7 a8 a9 h; exact absurd h Bool.false_ne_true
  | succ n ih =>
    intro x3 x4 a6 a7 a8 a9 h
    exact zs_if h (fun h => H _ _ _ _ _ h) (fun h => zs_knows h (fun r h => zs_if h (fun h => zs_nm h (fun h => ih _ _ _ _ _ _ h))
      (fun h => zs_knows h (fun s h => zs_if h (fun h => zs_take hV h (fun b6 b7 b8 b9 h => zs_nm h (fun h => zs_nm h (fun h => ih _ _ _ _ _ _ h)))) (fun h => zs_nm h (fun h => ih _ _ _ _ _ _ h))))))
theorem zs_catchUp {V : Int32 → Int32} {p : Int32 → zb_A → zb_A → zb_A → zb_A → Bool} {post : Int32 → St2 → Prop} {x y : Int32} (hV : ∀ v, 0 ≤ V v ↔ 0 ≤ v) (h : zb_catchUp p f0 a1 a2 a3 a4 a6 a7 a8 a9 x y = true)
    (H : ∀ r a6 a7 a8 a9, p r a6 a7 a8 a9 = true → post r (f0, zb_vw V a1, a2, a3, a4, a5, a6, a7, a8, a9)) : wpX_catchUp post (f0, zb_vw V a1, a2, a3, a4, a5, a6, a7, a8, a9) x y :=
  zs_isReplica h (fun r h => zs_if h (fun h => H _ _ _ _ _ h) (fun h => zs_isReplica h (fun s h => zs_if h (fun h => H _ _ _ _ _ h) (fun h => zs_if h (fun h => H _ _ _ _ _ h) (fun h => ⟨40, zs_catchUp_26 hV H _ _ _ _ _ _ _ h⟩)))))
theorem zs_madeBy {p : Int32 → Bool} {post : Int32 → Prop} {x q : Int32} (h : zb_madeBy p a7 a9 x q = true) (H : ∀ r, p r = true → post r) : wpX_madeBy post (f0, a1, a2, a3, a4, a5, a6, a7, a8, a9) x q :=
  zs_isReplica h (fun r h => zs_if h (H _) (fun h => zs_if h (fun h => zs_elementAt h (fun e h => zs_if h (H _) (H _))) (H _)))
theorem zs_at {V : Int32 → Int32} {p : Int32 → Bool} {post : Int32 → Prop} {x q : Int32} (hm : V (-1) = -1) (h : zb_at p a1 a7 a9 x q = true) (H : ∀ r, p r = true → post (V r)) : wpX_at post (f0, zb_vw V a1, a2, a3, a4, a5, a6, a7, a8, a9) x q := by
  unfold wpX_at
  exact zs_madeBy h (fun e h => zs_if h (fun h => zs_in h (fun h => H _ h)) (fun h => hm ▸ H _ h))
theorem zs_known {p : Int32 → Bool} {post : Int32 → Prop} {x : Int32} (h : zb_known p a6 x = true) (H : ∀ r, p r = true → post r) : wpX_known post (f0, a1, a2, a3, a4, a5, a6, a7, a8, a9) x :=
  zs_isReplica h (fun r h => zs_if h (H _) (fun h => zs_in h (H _)))
theorem zs_clock {p : Int32 → Bool} {post : Int32 → Prop} {x : Int32} (h : zb_clock p a8 x = true) (H : ∀ r, p r = true → post r) : wpX_clock post (f0, a1, a2, a3, a4, a5, a6, a7, a8, a9) x :=
  zs_isReplica h (fun r h => zs_if h (H _) (fun h => zs_in h (H _)))
theorem zs_elements_13 {V : Int32 → Int32} {p : Int32 → Bool} {post : Int32 → Prop} {x1 : Int32} (hN : ∀ v, V v < 0 ↔ v < 0) (H : ∀ r, p r = true → post r) :
    ∀ (n : Nat) (x2 x3 : Int32), zb_elements_13 p x1 f0 a1 a6 n x2 x3 = true → wX_elements_13 post x1 f0 (zb_vw V a1) a2 a3 a4 a5 a6 a7 a8 a9 n x2 x3 := by
  intro n
  induction n with
  | zero => intro x2 x3 h; exact absurd h Bool.false_ne_true
  | succ n ih =>
    intro x2 x3 h
    exact zs_if h (H _) (fun h => zs_knows h (fun r h => zs_if h (fun h => zs_nm h (fun h => zs_nm h (fun h => ih _ _ h)))
      (fun h => zs_in h (fun h => zs_ife (hN _) h (fun h => zs_nm h (fun h => zs_nm h (fun h => ih _ _ h))) (fun h => zs_nm h (fun h => zs_nm h (fun h => ih _ _ h)))))))
theorem zs_elements {V : Int32 → Int32} {p : Int32 → Bool} {post : Int32 → Prop} {x : Int32} (hN : ∀ v, V v < 0 ↔ v < 0) (h : zb_elements p f0 a1 a6 x = true) (H : ∀ r, p r = true → post r) : wpX_elements post (f0, zb_vw V a1, a2, a3, a4, a5, a6, a7, a8, a9) x :=
  zs_isReplica h (fun r h => zs_if h (H _) (fun h => ⟨40, zs_elements_13 hN H _ _ _ h⟩))
end
end
section
/-! the law, as a program that answers yes or no; the five symbols stand as the codes 1 .. 5 -/
def zb_389 (x22 x23 x24 x25 f0 : Int32) (a1 a6 a7 a8 a9 : zb_A) : Nat → Int32 → Bool
  | 0 => fun _ => false
  | n + 1 => fun x26 => if 3 ≤ x26 then true else
      zb_length (fun r => zb_eq r 4 (zb_at (fun r => zb_eq r 4 (zb_at (fun r => zb_eq r 3 (zb_at (fun r => zb_eq r 2 (zb_at (fun r => zb_eq r 5 (zb_known (fun r => zb_eq r 63 (zb_clock (fun r => zb_eq r 3 (zb_elements (fun r => zb_eq r 5 (zb_nm (x26 + 1) (fun y => zb_389 x22 x23 x24 x25 f0 a1 a6 a7 a8 a9 n y))) f0 a1 a6 x26)) a8 x26)) a6 x26)) a1 a7 a9 x26 x25)) a1 a7 a9 x26 x24)) a1 a7 a9 x26 x23)) a1 a7 a9 x26 x22)) a7 a9 x26
def zb_366 (w x22 z0 f0 : Int32) (a1 a6 a7 a8 a9 : zb_A) : Bool := if w = 0 then zb_nm (3 - w) (fun y => zb_389 x22 z0 2 y f0 a1 a6 a7 a8 a9 9 0) else zb_nm (3 - w) (fun y => zb_389 x22 z0 3 y f0 a1 a6 a7 a8 a9 9 0)
def zb_285 (w x y z x19 x20 z0 z1 f0 : Int32) (a1 a2 a3 a4 a6 a7 a8 a9 : zb_A) : Bool :=
  zb_nm (z1 + z0) (fun x21 => zb_catchUp (fun r a6 a7 a8 a9 => zb_eq r x19 (zb_catchUp (fun r a6 a7 a8 a9 => zb_eq r x20 (zb_catchUp (fun r a6 a7 a8 a9 => zb_eq r (x21 + x20) (zb_catchUp (fun r a6 a7 a8 a9 => zb_eq r (x21 + x19)
    (if w = 2 then zb_366 w 0 2 f0 a1 a6 a7 a8 a9 else zb_366 w 0 1 f0 a1 a6 a7 a8 a9)) f0 a1 a2 a3 a4 a6 a7 a8 a9 z x)) f0 a1 a2 a3 a4 a6 a7 a8 a9 y x)) f0 a1 a2 a3 a4 a6 a7 a8 a9 x z)) f0 a1 a2 a3 a4 a6 a7 a8 a9 x y)
def zb_272 (w g x y z x19 x20 z0 z1 f0 : Int32) (a1 a2 a3 a4 a6 a7 a8 a9 : zb_A) : Bool := if g = x then zb_285 w x y z x19 x20 1 (z1 + z0) f0 a1 a2 a3 a4 a6 a7 a8 a9 else zb_285 w x y z x19 x20 0 (z1 + z0) f0 a1 a2 a3 a4 a6 a7 a8 a9
def zb_256 (w g x y z x19 z0 z1 f0 : Int32) (a1 a2 a3 a4 a6 a7 a8 a9 : zb_A) : Bool := zb_nm (z1 + z0) (fun x20 => if w = x then zb_272 w g x y z x19 x20 1 1 f0 a1 a2 a3 a4 a6 a7 a8 a9 else zb_272 w g x y z x19 x20 0 1 f0 a1 a2 a3 a4 a6 a7 a8 a9)
def zb_243 (w g x y z x19 z0 z1 f0 : Int32) (a1 a2 a3 a4 a6 a7 a8 a9 : zb_A) : Bool := if g = z then zb_256 w g x y z x19 1 (z1 + z0) f0 a1 a2 a3 a4 a6 a7 a8 a9 else zb_256 w g x y z x19 0 (z1 + z0) f0 a1 a2 a3 a4 a6 a7 a8 a9
def zb_227 (w g x y z z0 z1 f0 : Int32) (a1 a2 a3 a4 a6 a7 a8 a9 : zb_A) : Bool := zb_nm (z1 + z0) (fun x19 => if w = z then zb_243 w g x y z x19 1 1 f0 a1 a2 a3 a4 a6 a7 a8 a9 else zb_243 w g x y z x19 0 1 f0 a1 a2 a3 a4 a6 a7 a8 a9)
def zb_214 (w g x y z z0 z1 f0 : Int32) (a1 a2 a3 a4 a6 a7 a8 a9 : zb_A) : Bool := if g = y then zb_227 w g x y z 1 (z1 + z0) f0 a1 a2 a3 a4 a6 a7 a8 a9 else zb_227 w g x y z 0 (z1 + z0) f0 a1 a2 a3 a4 a6 a7 a8 a9
def zb_law (w g x : Int32) : Bool :=
  zb_init_75 (fun a9 => zb_nm ((x + 1) - (x + 1) / 3 * 3) (fun y => zb_nm ((x + 2) - (x + 2) / 3 * 3) (fun z =>
    zb_put (fun r f0 a1 a2 a3 a4 a5 a6 a7 a8 a9 => zb_eq r 0 (zb_catchUp (fun r a6 a7 a8 a9 => zb_eq r 1 (zb_catchUp (fun r a6 a7 a8 a9 => zb_eq r 1 (zb_put (fun r f0 a1 a2 a3 a4 a5 a6 a7 a8 a9 => zb_eq r 1 (zb_put (fun r f0 a1 a2 a3 a4 a5 a6 a7 a8 a9 => zb_eq r 2 (zb_put (fun r f0 a1 a2 a3 a4 a5 a6 a7 a8 a9 => zb_eq r 3 (zb_put (fun r f0 a1 a2 a3 a4 a5 a6 a7 a8 a9 => zb_eq r 4 (zb_erase (fun r f0 a1 a2 a3 a4 a5 a6 a7 a8 a9 => zb_eq r 5
      (if w = y then zb_214 w g x y z 1 1 f0 a1 a2 a3 a4 a6 a7 a8 a9 else zb_214 w g x y z 0 1 f0 a1 a2 a3 a4 a6 a7 a8 a9)) f0 a1 a2 a3 a4 a5 a6 a7 a8 a9 g 0)) f0 a1 a2 a3 a4 a5 a6 a7 a8 a9 w 2 5)) f0 a1 a2 a3 a4 a5 a6 a7 a8 a9 2 1 4)) f0 a1 a2 a3 a4 a5 a6 a7 a8 a9 1 1 3)) f0 a1 a2 a3 a4 a5 a6 a7 a8 a9 0 1 2)) f0 a1 a2 a3 a4 a6 a7 a8 a9 2 0)) f0 a1 a2 a3 a4 a6 a7 a8 a9 1 0)) 0 (fun _ => 0) (fun _ => 0) (fun _ => 0) (fun _ => 0) (fun _ => 0) (fun _ => 0) (fun _ => 0) (fun _ => 0) a9 0 0 1))) 40 0 (fun _ => 0)
theorem zb_law_ok : ∀ w, w < 3 → ∀ g, g < 3 → ∀ x, x < 3 → zb_law (nI w) (nI g) (nI x) = true := by decide +kernel
end
section
/-- what a symbol is -/
abbrev zb_sy (t : Int32) : Prop := t.toInt8.toInt32 = t ∧ 0 ≤ t ∧ ¬ t < 0 ∧ ¬ 25 < t
section
variable {f0 : Int32} {a1 a2 a3 a4 a5 a6 a7 a8 a9 : Nat → Int32} {V : Int32 → Int32} {mc ms kc ks : Nat} {post : Int32 → St0 → Prop} {x10 x11 x12 x13 : Int32}
theorem zs_putS {p : zb_Q} {post : Int32 → St2 → Prop} {x q s t : Int32} (hV : ∀ v, 0 ≤ V v ↔ 0 ≤ v) (k : zb_sy t) (e : V s = t) (k' : zb_sy s) (h : zb_put p f0 a1 a2 a3 a4 a5 a6 a7 a8 a9 x q s = true)
    (H : ∀ r f0 a1 a2 a3 a4 a5 a6 a7 a8 a9, p r f0 a1 a2 a3 a4 a5 a6 a7 a8 a9 = true → post r (f0, zb_vw V a1, a2, a3, a4, a5, a6, a7, a8, a9)) : wpX_put post (f0, zb_vw V a1, a2, a3, a4, a5, a6, a7, a8, a9) x q t :=
  zs_put hV (k.1.trans e.symm) ⟨fun _ => k'.2.1, fun _ => k.2.1⟩ ⟨fun c => absurd c k.2.2.1, fun c => absurd c k'.2.2.1⟩ ⟨fun c => absurd c k.2.2.2, fun c => absurd c k'.2.2.2⟩ h H
theorem zs_put0 {p : zb_Q} {post : Int32 → St2 → Prop} {x q s t : Int32} (hV : ∀ v, 0 ≤ V v ↔ 0 ≤ v) (e0 : V 0 = 0) (k : zb_sy t) (e : V s = t) (k' : zb_sy s) (h : zb_put p f0 (fun _ => 0) a2 a3 a4 a5 a6 a7 a8 a9 x q s = true)
    (H : ∀ r f0 a1 a2 a3 a4 a5 a6 a7 a8 a9, p r f0 a1 a2 a3 a4 a5 a6 a7 a8 a9 = true → post r (f0, zb_vw V a1, a2, a3, a4, a5, a6, a7, a8, a9)) : wpX_put post (f0, (fun _ => 0), a2, a3, a4, a5, a6, a7, a8, a9) x q t := by
  have e' : zb_vw V (fun _ => 0) = fun _ => 0 := funext (fun _ => e0)
  have g := zs_putS hV k e k' h H
  rw [e'] at g
  exact g
theorem zs_389 {x22 x23 x24 x25 : Int32} (hN : ∀ v, V v < 0 ↔ v < 0) (hm : V (-1) = -1) (e2 : V 2 = x10) (e3 : V 3 = x11) (e4 : V 4 = x12) (e5 : V 5 = x13) (hp : post 1 ()) :
    ∀ (n : Nat) (x26 : Int32), zb_389 x22 x23 x24 x25 f0 a1 a6 a7 a8 a9 n x26 = true → wL_lawOf_389 post mc ms x10 x11 x12 x13 x22 x23 x24 x25 kc ks f0 (zb_vw V a1) a2 a3 a4 a5 a6 a7 a8 a9 n x26 := by
  intro n
  induction n with
  | zero => intro x26 h; exact absurd h Bool.false_ne_true
  | succ n ih =>
    intro x26 h
    refine zs_if h (fun _ => hp) (fun h => zs_length h (fun r h => zs_eq h (fun h => ?_)))
    refine zs_at hm h (fun r h => zs_eqV h e4 (fun h => ?_))
    refine zs_at hm h (fun r h => zs_eqV h e3 (fun h => ?_))
    refine zs_at hm h (fun r h => zs_eqV h e2 (fun h => ?_))
    refine zs_at hm h (fun r h => zs_eqV h e5 (fun h => ?_))
    refine zs_known h (fun r h => zs_eq h (fun h => ?_))
    refine zs_clock h (fun r h => zs_eq h (fun h => ?_))
    exact zs_elements hN h (fun r h => zs_eq h (fun h => zs_nm h (fun h => ih _ h)))
theorem zs_366 {w x22 z0 : Int32} (hN : ∀ v, V v < 0 ↔ v < 0) (hm : V (-1) = -1) (e2 : V 2 = x10) (e3 : V 3 = x11) (e4 : V 4 = x12) (e5 : V 5 = x13) (hp : post 1 ()) (h : zb_366 w x22 z0 f0 a1 a6 a7 a8 a9 = true) :
    wL_lawOf_366 post mc ms x10 x11 x12 x13 w x22 z0 kc ks f0 (zb_vw V a1) a2 a3 a4 a5 a6 a7 a8 a9 :=
  zs_if h (fun h => zs_nm h (fun h => ⟨9, zs_389 hN hm e2 e3 e4 e5 hp _ _ h⟩)) (fun h => zs_nm h (fun h => ⟨9, zs_389 hN hm e2 e3 e4 e5 hp _ _ h⟩))
theorem zs_285 {w x y z x19 x20 z0 z1 : Int32} (hV : ∀ v, 0 ≤ V v ↔ 0 ≤ v) (hN : ∀ v, V v < 0 ↔ v < 0) (hm : V (-1) = -1) (e2 : V 2 = x10) (e3 : V 3 = x11) (e4 : V 4 = x12) (e5 : V 5 = x13) (hp : post 1 ()) (h : zb_285 w x y z x19 x20 z0 z1 f0 a1 a2 a3 a4 a6 a7 a8 a9 = true) :
    wL_lawOf_285 post mc ms x10 x11 x12 x13 w x y z x19 x20 z0 z1 kc ks f0 (zb_vw V a1) a2 a3 a4 a5 a6 a7 a8 a9 := by
  refine zs_nm h (fun h => ?_)
  refine zs_catchUp hV h (fun r b6 b7 b8 b9 h => zs_eq h (fun h => ?_))
  refine zs_catchUp hV h (fun r b6 b7 b8 b9 h => zs_eq h (fun h => ?_))
  refine zs_catchUp hV h (fun r b6 b7 b8 b9 h => zs_eq h (fun h => ?_))
  refine zs_catchUp hV h (fun r b6 b7 b8 b9 h => zs_eq h (fun h => ?_))
  exact zs_if h (fun h => zs_366 hN hm e2 e3 e4 e5 hp h) (fun h => zs_366 hN hm e2 e3 e4 e5 hp h)
theorem zs_256 {w g x y z x19 z0 z1 : Int32} (hV : ∀ v, 0 ≤ V v ↔ 0 ≤ v) (hN : ∀ v, V v < 0 ↔ v < 0) (hm : V (-1) = -1) (e2 : V 2 = x10) (e3 : V 3 = x11) (e4 : V 4 = x12) (e5 : V 5 = x13) (hp : post 1 ()) (h : zb_256 w g x y z x19 z0 z1 f0 a1 a2 a3 a4 a6 a7 a8 a9 = true) :
    wL_lawOf_256 post mc ms x10 x11 x12 x13 w g x y z x19 z0 z1 kc ks f0 (zb_vw V a1) a2 a3 a4 a5 a6 a7 a8 a9 :=
  zs_nm h (fun h => zs_if h
    (fun h => zs_if h (fun h => zs_285 hV hN hm e2 e3 e4 e5 hp h) (fun h => zs_285 hV hN hm e2 e3 e4 e5 hp h))
    (fun h => zs_if h (fun h => zs_285 hV hN hm e2 e3 e4 e5 hp h) (fun h => zs_285 hV hN hm e2 e3 e4 e5 hp h)))
theorem zs_227 {w g x y z z0 z1 : Int32} (hV : ∀ v, 0 ≤ V v ↔ 0 ≤ v) (hN : ∀ v, V v < 0 ↔ v < 0) (hm : V (-1) = -1) (e2 : V 2 = x10) (e3 : V 3 = x11) (e4 : V 4 = x12) (e5 : V 5 = x13) (hp : post 1 ()) (h : zb_227 w g x y z z0 z1 f0 a1 a2 a3 a4 a6 a7 a8 a9 = true) :
    wL_lawOf_227 post mc ms x10 x11 x12 x13 w g x y z z0 z1 kc ks f0 (zb_vw V a1) a2 a3 a4 a5 a6 a7 a8 a9 :=
  zs_nm h (fun h => zs_if h
    (fun h => zs_if h (fun h => zs_256 hV hN hm e2 e3 e4 e5 hp h) (fun h => zs_256 hV hN hm e2 e3 e4 e5 hp h))
    (fun h => zs_if h (fun h => zs_256 hV hN hm e2 e3 e4 e5 hp h) (fun h => zs_256 hV hN hm e2 e3 e4 e5 hp h)))
theorem zs_214 {w g x y z z0 z1 : Int32} (hV : ∀ v, 0 ≤ V v ↔ 0 ≤ v) (hN : ∀ v, V v < 0 ↔ v < 0) (hm : V (-1) = -1) (e2 : V 2 = x10) (e3 : V 3 = x11) (e4 : V 4 = x12) (e5 : V 5 = x13) (hp : post 1 ()) (h : zb_214 w g x y z z0 z1 f0 a1 a2 a3 a4 a6 a7 a8 a9 = true) :
    wL_lawOf_214 post mc ms x10 x11 x12 x13 w g x y z z0 z1 kc ks f0 (zb_vw V a1) a2 a3 a4 a5 a6 a7 a8 a9 :=
  zs_if h (fun h => zs_227 hV hN hm e2 e3 e4 e5 hp h) (fun h => zs_227 hV hN hm e2 e3 e4 e5 hp h)
theorem zs_lawOf {p0 p1 p2 p3 p4 p5 p6 p7 t0 t1 t2 t3 t4 w g x : Int32} (hV : ∀ v, 0 ≤ V v ↔ 0 ≤ v) (hN : ∀ v, V v < 0 ↔ v < 0) (hm : V (-1) = -1) (e0 : V 0 = 0) (e1 : V 1 = t0) (e2 : V 2 = t1) (e3 : V 3 = t2) (e4 : V 4 = t3) (e5 : V 5 = t4)
    (k0 : zb_sy t0) (k1 : zb_sy t1) (k2 : zb_sy t2) (k3 : zb_sy t3) (k4 : zb_sy t4)
    (r0 : (p0 &&& 2147483647) - (p0 &&& 2147483647) / 26 * 26 = t0) (r1 : (p1 &&& 2147483647) - (p1 &&& 2147483647) / 26 * 26 = t1) (r2 : (p2 &&& 2147483647) - (p2 &&& 2147483647) / 26 * 26 = t2)
    (r3 : (p3 &&& 2147483647) - (p3 &&& 2147483647) / 26 * 26 = t3) (r4 : (p4 &&& 2147483647) - (p4 &&& 2147483647) / 26 * 26 = t4)
    (r5 : (p5 &&& 2147483647) - (p5 &&& 2147483647) / 3 * 3 = w) (r6 : (p6 &&& 2147483647) - (p6 &&& 2147483647) / 3 * 3 = g) (r7 : (p7 &&& 2147483647) - (p7 &&& 2147483647) / 3 * 3 = x)
    (hp : post 1 ()) (h : zb_law w g x = true) : wpL_lawOf post 10 262 () p0 p1 p2 p3 p4 p5 p6 p7 := by
  unfold zb_law at h
  refine ⟨by decide, by decide, 9, 252, by decide, by decide, ?_⟩
  refine ⟨by decide, by decide, by decide, by decide, by decide, by decide, by decide, by decide, by decide, by decide, by decide, by decide, by decide, by decide, by decide, by decide, by decide, by decide, 40, zs_init_75 (fun b9 h => ?_) _ _ _ h⟩
  refine ⟨by decide, nm_r r0 ⟨by decide, nm_r r1 ⟨by decide, nm_r r2 ⟨by decide, nm_r r3 ⟨by decide, nm_r r4 ⟨by decide, nm_r r5 ⟨by decide, nm_r r6 ⟨by decide, nm_r r7 ⟨by decide, zs_nm h (fun h => ⟨by decide, zs_nm h (fun h => ?_)⟩)⟩⟩⟩⟩⟩⟩⟩⟩⟩
  refine zs_put0 hV e0 k0 e1 (s := 1) (by decide) h (fun r f0 a1 a2 a3 a4 a5 a6 a7 a8 a9 h => zs_eq h (fun h => ?_))
  refine zs_catchUp hV h (fun r a6 a7 a8 a9 h => zs_eq h (fun h => ?_))
  refine zs_catchUp hV h (fun r a6 a7 a8 a9 h => zs_eq h (fun h => ?_))
  refine zs_putS hV k1 e2 (s := 2) (by decide) h (fun r f0 a1 a2 a3 a4 a5 a6 a7 a8 a9 h => zs_eq h (fun h => ?_))
  refine zs_putS hV k2 e3 (s := 3) (by decide) h (fun r f0 a1 a2 a3 a4 a5 a6 a7 a8 a9 h => zs_eq h (fun h => ?_))
  refine zs_putS hV k3 e4 (s := 4) (by decide) h (fun r f0 a1 a2 a3 a4 a5 a6 a7 a8 a9 h => zs_eq h (fun h => ?_))
  refine zs_putS hV k4 e5 (s := 5) (by decide) h (fun r f0 a1 a2 a3 a4 a5 a6 a7 a8 a9 h => zs_eq h (fun h => ?_))
  refine zs_erase hV hm h (fun r f0 a1 a2 a3 a4 a5 a6 a7 a8 a9 h => zs_eq h (fun h => ?_))
  exact zs_if h (fun h => zs_214 hV hN hm e2 e3 e4 e5 hp h) (fun h => zs_214 hV hN hm e2 e3 e4 e5 hp h)
end
end
section
/-- the codes read as the script's symbols -/
def zb_V (t0 t1 t2 t3 t4 v : Int32) : Int32 := if v = 1 then t0 else if v = 2 then t1 else if v = 3 then t2 else if v = 4 then t3 else if v = 5 then t4 else v
theorem zb_V_case {t0 t1 t2 t3 t4 : Int32} {P : Int32 → Int32 → Prop} (h1 : P 1 t0) (h2 : P 2 t1) (h3 : P 3 t2) (h4 : P 4 t3) (h5 : P 5 t4) (h : ∀ v, P v v) (v : Int32) : P v (zb_V t0 t1 t2 t3 t4 v) := by
  unfold zb_V
  by_cases c1 : v = 1
  · rw [if_pos c1, c1]; exact h1
  rw [if_neg c1]
  by_cases c2 : v = 2
  · rw [if_pos c2, c2]; exact h2
  rw [if_neg c2]
  by_cases c3 : v = 3
  · rw [if_pos c3, c3]; exact h3
  rw [if_neg c3]
  by_cases c4 : v = 4
  · rw [if_pos c4, c4]; exact h4
  rw [if_neg c4]
  by_cases c5 : v = 5
  · rw [if_pos c5, c5]; exact h5
  rw [if_neg c5]
  exact h v
theorem zb_sy_nI : ∀ k, k < 26 → zb_sy (nI k) := by decide +kernel
theorem zb_rem (p : Int32) (d : Nat) (h0 : 0 < d) (hd : d < 2 ^ 31) : ∃ k, k < d ∧ (p &&& 2147483647) - (p &&& 2147483647) / nI d * nI d = nI k := by
  obtain ⟨j, hj, e⟩ := pk_andE p (m := 2147483647) 31 (by decide)
  exact ⟨j % d, Nat.mod_lt _ h0, by rw [e]; exact pk_rem hj h0 hd⟩
theorem zb_r26 (p : Int32) : ∃ t, zb_sy t ∧ (p &&& 2147483647) - (p &&& 2147483647) / 26 * 26 = t := by
  obtain ⟨k, hk, e⟩ := zb_rem p 26 (by decide) (by decide)
  exact ⟨nI k, zb_sy_nI k hk, e⟩
theorem zb_r3 (p : Int32) : ∃ k, k < 3 ∧ (p &&& 2147483647) - (p &&& 2147483647) / 3 * 3 = nI k := zb_rem p 3 (by decide) (by decide)
theorem zs_top (p0 p1 p2 p3 p4 p5 p6 p7 : Int32) : wpL_lawOf (fun r _ => r = 1) 10 262 () p0 p1 p2 p3 p4 p5 p6 p7 := by
  obtain ⟨t0, k0, r0⟩ := zb_r26 p0
  obtain ⟨t1, k1, r1⟩ := zb_r26 p1
  obtain ⟨t2, k2, r2⟩ := zb_r26 p2
  obtain ⟨t3, k3, r3⟩ := zb_r26 p3
  obtain ⟨t4, k4, r4⟩ := zb_r26 p4
  obtain ⟨w, hw, r5⟩ := zb_r3 p5
  obtain ⟨g, hg, r6⟩ := zb_r3 p6
  obtain ⟨x, hx, r7⟩ := zb_r3 p7
  have A : ∀ {s t : Int32}, zb_sy s → zb_sy t → (0 ≤ t ↔ 0 ≤ s) := fun a b => ⟨fun _ => a.2.1, fun _ => b.2.1⟩
  have B : ∀ {s t : Int32}, zb_sy s → zb_sy t → (t < 0 ↔ s < 0) := fun a b => ⟨fun c => absurd c b.2.2.1, fun c => absurd c a.2.2.1⟩
  have hV : ∀ v, 0 ≤ zb_V t0 t1 t2 t3 t4 v ↔ 0 ≤ v := zb_V_case (P := fun v u => (0 ≤ u ↔ 0 ≤ v)) (A (by decide) k0) (A (by decide) k1) (A (by decide) k2) (A (by decide) k3) (A (by decide) k4) (fun _ => Iff.rfl)
  have hN : ∀ v, zb_V t0 t1 t2 t3 t4 v < 0 ↔ v < 0 := zb_V_case (P := fun v u => (u < 0 ↔ v < 0)) (B (by decide) k0) (B (by decide) k1) (B (by decide) k2) (B (by decide) k3) (B (by decide) k4) (fun _ => Iff.rfl)
  exact zs_lawOf (V := zb_V t0 t1 t2 t3 t4) hV hN rfl rfl rfl rfl rfl rfl rfl k0 k1 k2 k3 k4 r0 r1 r2 r3 r4 r5 r6 r7 rfl (zb_law_ok w hw g hg x hx)
theorem zs_cell {post : Int32 → Prop} {L : Nat} {xs : Nat → Int32} {q : Int32} (k : Nat) (hL : L ≤ 8) (H : ∀ r, post r) (hk : k < 8 := by decide) (hq : q = nI k := by rfl) : wpL_cellAt post L xs () q := by
  rw [hq]
  refine br_c (fun _ => H _) (fun hc => ⟨?_, H _⟩)
  by_cases c : k < L
  · exact vp_in_nI c (by omega)
  · exact absurd (nI_le (show L ≤ k by omega) (by omega)) hc
theorem i_vc (xs : Nat → Int32) (L : Nat) (hL : L ≤ 8) : wpL_law (fun r => r = 1) L xs :=
  zs_cell 0 hL (fun r1 => zs_cell 1 hL (fun r2 => zs_cell 2 hL (fun r3 => zs_cell 3 hL (fun r4 => zs_cell 4 hL (fun r5 => zs_cell 5 hL (fun r6 => zs_cell 6 hL (fun r7 => zs_cell 7 hL (fun r8 => ⟨10, 262, by decide, by decide, zs_top r1 r2 r3 r4 r5 r6 r7 r8⟩))))))))
end
