section
/-! the fold of the check word, on bits -/
def sh_C (b : Bool) : BitVec 32 := bif b then 79764919#32 else 0#32
def sh_F (x : BitVec 32) : BitVec 32 := x <<< 1 ^^^ sh_C x.msb
theorem sh_Cx (a b : Bool) : sh_C (a ^^ b) = sh_C a ^^^ sh_C b := by
  cases a <;> cases b <;> decide +kernel
theorem sh_x4 (a b c d : BitVec 32) : (a ^^^ b) ^^^ (c ^^^ d) = (a ^^^ c) ^^^ (b ^^^ d) := by
  rw [BitVec.xor_assoc, BitVec.xor_assoc, ← BitVec.xor_assoc b, ← BitVec.xor_assoc c, BitVec.xor_comm b c]
theorem sh_Fx (x y : BitVec 32) : sh_F (x ^^^ y) = sh_F x ^^^ sh_F y := by
  show (x ^^^ y) <<< 1 ^^^ sh_C (x ^^^ y).msb = (x <<< 1 ^^^ sh_C x.msb) ^^^ (y <<< 1 ^^^ sh_C y.msb)
  rw [BitVec.shiftLeft_xor_distrib, BitVec.msb_xor, sh_Cx, sh_x4]
theorem sh_it {x A : BitVec 32} {n : Nat} (h : x = A ^^^ x <<< n) : x = (A ^^^ A <<< n) ^^^ x <<< (n + n) := by
  have h2 : x <<< n = A <<< n ^^^ x <<< (n + n) := by
    rw [BitVec.shiftLeft_add, ← BitVec.shiftLeft_xor_distrib, ← h]
  rw [BitVec.xor_assoc, ← h2]
  exact h
theorem sh_end {x A : BitVec 32} {n : Nat} (h : x = A ^^^ x <<< n) (hn : 32 ≤ n) : x = A := by
  rw [BitVec.shiftLeft_eq_zero hn, BitVec.xor_zero] at h
  exact h
theorem sh_Fs {x y A : BitVec 32} {n : Nat} (h : y = A ^^^ x <<< n) : ∃ b, sh_F y = (A <<< 1 ^^^ sh_C b) ^^^ x <<< (n + 1) := by
  refine ⟨y.msb, ?_⟩
  have e : y <<< 1 = A <<< 1 ^^^ x <<< (n + 1) := by
    rw [BitVec.shiftLeft_add, ← BitVec.shiftLeft_xor_distrib, ← h]
  show y <<< 1 ^^^ sh_C y.msb = _
  rw [e, BitVec.xor_assoc, BitVec.xor_assoc, BitVec.xor_comm (x <<< (n + 1))]
theorem sh_F0s (x : BitVec 32) : x = 0#32 ^^^ x <<< 0 := by
  rw [BitVec.shiftLeft_zero, BitVec.zero_xor]
theorem sh_p1 (x : BitVec 32) (h : sh_F x = x) : x = 0#32 := by
  obtain ⟨b1, e1⟩ := sh_Fs (sh_F0s x)
  rw [h] at e1
  have e := sh_end (sh_it (sh_it (sh_it (sh_it (sh_it e1))))) (by decide)
  clear e1
  subst e
  revert h
  revert b1
  decide +kernel
theorem sh_p2 (x : BitVec 32) (h : sh_F (sh_F x) = x) : x = 0#32 := by
  obtain ⟨b1, e1⟩ := sh_Fs (sh_F0s x)
  obtain ⟨b2, e2⟩ := sh_Fs e1
  rw [h] at e2
  have e := sh_end (sh_it (sh_it (sh_it (sh_it e2)))) (by decide)
  clear e1 e2
  subst e
  revert h
  revert b1 b2
  decide +kernel
theorem sh_p3 (x : BitVec 32) (h : sh_F (sh_F (sh_F x)) = x) : x = 0#32 := by
  obtain ⟨b1, e1⟩ := sh_Fs (sh_F0s x)
  obtain ⟨b2, e2⟩ := sh_Fs e1
  obtain ⟨b3, e3⟩ := sh_Fs e2
  rw [h] at e3
  have e := sh_end (sh_it (sh_it (sh_it (sh_it e3)))) (by decide)
  clear e1 e2 e3
  subst e
  revert h
  revert b1 b2 b3
  decide +kernel
theorem sh_F0 (x : BitVec 32) (h : sh_F x = 0#32) : x = 0#32 := by
  have h1 : x <<< 1 = sh_C x.msb := BitVec.xor_eq_zero_iff.mp h
  have h2 := congrArg BitVec.toNat h1
  rw [BitVec.toNat_shiftLeft, Nat.shiftLeft_eq] at h2
  have hlt := x.isLt
  apply BitVec.eq_of_toNat_eq
  show x.toNat = 0
  rcases Nat.lt_or_ge x.toNat (2 ^ 31) with g | g
  · have hm : x.msb = false := by
      rw [BitVec.msb_eq_decide]
      exact decide_eq_false (by omega)
    rw [hm] at h2
    have h3 : x.toNat * 2 ^ 1 % 2 ^ 32 = 0 := h2
    omega
  · have hm : x.msb = true := by
      rw [BitVec.msb_eq_decide]
      exact decide_eq_true (by omega)
    rw [hm] at h2
    have h3 : x.toNat * 2 ^ 1 % 2 ^ 32 = 79764919 := h2
    omega
/-! the same over Int32 -/
def sh_f (h : Int32) : Int32 := if 0 ≤ h then h <<< ((1 : Int32) &&& 31) else (h <<< ((1 : Int32) &&& 31)) ^^^ 79764919
theorem sh_s1 : (((1 : Int32) &&& 31).toBitVec.smod 32).toNat = 1 := by decide
theorem sh_fB (h : Int32) : (sh_f h).toBitVec = sh_F h.toBitVec := by
  have e : (h <<< ((1 : Int32) &&& 31)).toBitVec = h.toBitVec <<< 1 := by
    show h.toBitVec <<< (((1 : Int32) &&& 31).toBitVec.smod 32).toNat = _
    rw [sh_s1]
  have k : (0 : Int32) ≤ h ↔ h.toBitVec.msb = false := by
    show (BitVec.sle 0#32 h.toBitVec = true) ↔ _
    exact BitVec.zero_sle_iff_msb_eq_false
  unfold sh_f sh_F
  by_cases g : (0 : Int32) ≤ h
  · rw [if_pos g, e, k.mp g]
    show _ = h.toBitVec <<< 1 ^^^ 0#32
    rw [BitVec.xor_zero]
  · rw [if_neg g, Int32.toBitVec_xor, e]
    have g2 : h.toBitVec.msb = true := by
      cases q : h.toBitVec.msb with
      | true => rfl
      | false => exact absurd (k.mpr q) g
    rw [g2]
    rfl
theorem sh_fx (x y : Int32) : sh_f (x ^^^ y) = sh_f x ^^^ sh_f y := by
  apply Int32.toBitVec_inj.mp
  rw [Int32.toBitVec_xor, sh_fB, sh_fB, sh_fB, Int32.toBitVec_xor, sh_Fx]
theorem sh_0B {x : Int32} (h : x.toBitVec = 0#32) : x = 0 := Int32.toBitVec_inj.mp h
theorem sh_f0 {x : Int32} (h : sh_f x = 0) : x = 0 := by
  apply sh_0B
  apply sh_F0
  rw [← sh_fB, h]
  rfl
theorem sh_fz : sh_f 0 = 0 := by decide
theorem sh_q1 {x : Int32} (h : sh_f x = x) : x = 0 := by
  apply sh_0B
  apply sh_p1
  rw [← sh_fB, h]
theorem sh_q2 {x : Int32} (h : sh_f (sh_f x) = x) : x = 0 := by
  apply sh_0B
  apply sh_p2
  rw [← sh_fB, ← sh_fB, h]
theorem sh_q3 {x : Int32} (h : sh_f (sh_f (sh_f x)) = x) : x = 0 := by
  apply sh_0B
  apply sh_p3
  rw [← sh_fB, ← sh_fB, ← sh_fB, h]
theorem sh_fi {x y : Int32} (h : sh_f x = sh_f y) : x = y := by
  apply Int32.xor_eq_zero_iff.mp
  apply sh_f0
  rw [sh_fx, h]
  exact Int32.xor_self
/-! the check word of four words -/
def sh_ck (w : Nat → Int32) : Nat → Int32
  | 0 => 0
  | n + 1 => sh_f (sh_ck w n) ^^^ w n
def sh_chk (w : Nat → Int32) : Int32 := sh_ck w 4
theorem sh_ckE {w v : Nat → Int32} (n : Nat) (h : ∀ j, j < n → w j = v j) : sh_ck w n = sh_ck v n := by
  induction n with
  | zero => rfl
  | succ n ih =>
    show sh_f (sh_ck w n) ^^^ w n = sh_f (sh_ck v n) ^^^ v n
    rw [ih (fun j hj => h j (by omega)), h n (by omega)]
theorem sh_chE {w v : Nat → Int32} (h : ∀ j, j < 4 → w j = v j) : sh_chk w = sh_chk v := sh_ckE 4 h
theorem sh_y4 (a b c d : Int32) : (a ^^^ b) ^^^ (c ^^^ d) = (a ^^^ c) ^^^ (b ^^^ d) := by
  rw [Int32.xor_assoc, Int32.xor_assoc, ← Int32.xor_assoc b, ← Int32.xor_assoc c, Int32.xor_comm b c]
theorem sh_ckx (w d : Nat → Int32) (n : Nat) : sh_ck (fun j => w j ^^^ d j) n = sh_ck w n ^^^ sh_ck d n := by
  induction n with
  | zero =>
    show (0 : Int32) = 0 ^^^ 0
    decide
  | succ n ih =>
    show sh_f (sh_ck (fun j => w j ^^^ d j) n) ^^^ (w n ^^^ d n) = (sh_f (sh_ck w n) ^^^ w n) ^^^ (sh_f (sh_ck d n) ^^^ d n)
    rw [ih, sh_fx, sh_y4]
theorem sh_ckd {w v d : Nat → Int32} (h : ∀ j, j < 4 → v j = w j ^^^ d j) (e : sh_chk v = sh_chk w) : sh_chk d = 0 := by
  have h1 : sh_chk v = sh_chk w ^^^ sh_chk d := (sh_chE h).trans (sh_ckx w d 4)
  rw [e] at h1
  have h2 : sh_chk w ^^^ 0 = sh_chk w ^^^ sh_chk d := by
    rw [Int32.xor_zero]
    exact h1
  exact ((Int32.xor_right_inj _).mp h2).symm
/-- one word is wrong by m, or two words are: the check word sees it -/
theorem sh_d1 {m : Int32} {c : Nat} (hc : c < 4) {d : Nat → Int32} (h : ∀ j, d j = if j = c then m else 0) (e : sh_chk d = 0) : m = 0 := by
  have e' : sh_f (sh_f (sh_f (sh_f 0 ^^^ d 0) ^^^ d 1) ^^^ d 2) ^^^ d 3 = 0 := e
  rw [sh_fz, h 0, h 1, h 2, h 3] at e'
  have hc' : c = 0 ∨ c = 1 ∨ c = 2 ∨ c = 3 := by omega
  rcases hc' with g | g | g | g <;> subst g <;> simp [sh_fz] at e'
  · exact sh_f0 (sh_f0 (sh_f0 e'))
  · exact sh_f0 (sh_f0 e')
  · exact sh_f0 e'
  · exact e'
theorem sh_d2 {m : Int32} {c k : Nat} (hc : c < 4) (hk : k < c) {d : Nat → Int32} (h : ∀ j, d j = if j = c ∨ j = k then m else 0) (e : sh_chk d = 0) : m = 0 := by
  have e' : sh_f (sh_f (sh_f (sh_f 0 ^^^ d 0) ^^^ d 1) ^^^ d 2) ^^^ d 3 = 0 := e
  rw [sh_fz, h 0, h 1, h 2, h 3] at e'
  have hc' : (c = 1 ∧ k = 0) ∨ (c = 2 ∧ k = 0) ∨ (c = 2 ∧ k = 1) ∨ (c = 3 ∧ k = 0) ∨ (c = 3 ∧ k = 1) ∨ (c = 3 ∧ k = 2) := by omega
  rcases hc' with ⟨g, g'⟩ | ⟨g, g'⟩ | ⟨g, g'⟩ | ⟨g, g'⟩ | ⟨g, g'⟩ | ⟨g, g'⟩ <;> subst g <;> subst g' <;> simp [sh_fz] at e'
  · exact sh_q1 (Int32.xor_eq_zero_iff.mp (sh_f0 (sh_f0 e')))
  · exact sh_q2 (Int32.xor_eq_zero_iff.mp (sh_f0 e'))
  · exact sh_q1 (Int32.xor_eq_zero_iff.mp (sh_f0 e'))
  · exact sh_q3 e'
  · exact sh_q2 e'
  · exact sh_q1 e'
end
section
section
variable {t dr mn : Int32} {a1 a2 a3 a4 a5 a6 a7 a8 : Nat → Int32} {w : Nat → Int32} {m : Int32} {cd x : Nat} {q : Nat → Nat}
/-! indices -/
theorem sh_i5 (x c : Nat) : (nI x * 5) + nI c = nI (x * 5 + c) := by
  rw [show (5 : Int32) = nI 5 from rfl, pk_mul, nI_add]
theorem sh_i12 (x c : Nat) : (nI x * 12) + nI c = nI (x * 12 + c) := by
  rw [show (12 : Int32) = nI 12 from rfl, pk_mul, nI_add]
def sh_Cells (x : Nat) (q : Nat → Nat) (a5 : Nat → Int32) : Prop := ∀ c, c < 5 → a5 (x * 5 + c) = nI (q c) ∧ q c < 60
theorem sh_c5 {c : Nat} (h : sh_Cells x q a5) (hx : x < 8) (hc : c < 5) : a5 ((nI x * 5) + nI c).toNatClampNeg = nI (q c) := by
  rw [sh_i5, nI_clamp (by omega)]
  exact (h c hc).1
theorem sh_in5 {c : Nat} (hx : x < 8) (hc : c < 5) : vp_in ((nI x * 5) + nI c) 40 := pk_in (x * 5 + c) 40 (by omega) (sh_i5 x c)
theorem sh_in60 {c : Nat} (h : sh_Cells x q a5) (hx : x < 8) (hc : c < 5) : vp_in (a5 ((nI x * 5) + nI c).toNatClampNeg) 60 := pk_in (q c) 60 (h c hc).2 (sh_c5 h hx hc)
theorem sh_q5 {c : Nat} (h : sh_Cells x q a5) (hx : x < 8) (hc : c < 5) : (a5 ((nI x * 5) + nI c).toNatClampNeg).toNatClampNeg = q c := by
  have := (h c hc).2
  rw [sh_c5 h hx hc, nI_clamp (by omega)]
theorem sh_cl {n : Nat} (h : n < 60) : (nI n).toNatClampNeg = n := nI_clamp (by omega)
theorem sh_at {n : Nat} (f : Nat → Int32) (h : n < 60) : f (nI n).toNatClampNeg = f n := by
  rw [sh_cl h]
theorem sh_fill {f s : Nat → Int32} {i k : Nat} {x : Int32} (hk : k = i) (h : ∀ j, j < i → s j = f j) (hx : x = f i) : ∀ j, j < i + 1 → upd s k x j = f j := by
  intro j hj
  rw [hk]
  by_cases e : j = i
  · rw [e, pk_us, hx]
  · rw [pk_un e]
    exact h j (by omega)
/-! fold, checkOf -/
theorem sh_fold {post : Int32 → Prop} (h : Int32) (hp : post (sh_f h)) : wpX_fold post (t, dr, mn, a1, a2, a3, a4, a5, a6, a7, a8) h := by
  unfold sh_f at hp
  refine nm_e ?_
  by_cases g : (0 : Int32) ≤ h
  · rw [if_pos g] at hp
    exact br_t g hp
  · rw [if_neg g] at hp
    exact br_f g hp
theorem sh_checkOf {post : Int32 → Prop} (hp : post (sh_chk a7)) : wpX_checkOf post (t, dr, mn, a1, a2, a3, a4, a5, a6, a7, a8) (nI 4) :=
  pk_loop (fun n i s => wX_checkOf_4 post (nI 4) t dr mn a1 a2 a3 a4 a5 a6 a7 a8 n s (nI i)) (fun i s => s = sh_ck a7 i) 4 0 0 (by omega) rfl
    (fun n s h => pk_le 4 4 (fun _ => by rw [h]; exact hp) (fun z => absurd z (by omega)))
    (fun n i s hi h hw => pk_le 4 i (fun z => absurd z (by omega)) (fun _ => sh_fold s ⟨pk_in i 4 hi, nm_e (nm_r (nI_1 i) (hw _ (by rw [sh_at a7 (by omega), h]; rfl)))⟩))
/-! rebuilt, loadWords -/
def sh_rb (v : Nat → Int32) (l : Nat) : Nat → Int32
  | 0 => 0
  | n + 1 => if n = l then sh_rb v l n else sh_rb v l n ^^^ v n
theorem sh_rebuilt {post : Int32 → Prop} {l : Nat} (hx : x < 8) (hl : l < 5) (h3 : a3 x = nI 4) (h5 : sh_Cells x q a5) (hp : post (sh_rb (fun c => a1 (q c)) l 5)) : wpX_rebuilt post (t, dr, mn, a1, a2, a3, a4, a5, a6, a7, a8) (nI x) (nI l) := by
  have e3 : a3 (nI x).toNatClampNeg = nI 4 := by rw [sh_cl (by omega)]; exact h3
  exact pk_loop (fun n i s => wX_rebuilt_5 post (nI x) (nI l) t dr mn a1 a2 a3 a4 a5 a6 a7 a8 n s (nI i)) (fun i s => s = sh_rb (fun c => a1 (q c)) l i) 5 0 0 (by omega) rfl
    (fun n s h => ⟨pk_in x 8 hx, pk_lt 4 5 (fun _ => by rw [h]; exact hp) (fun z => absurd z (by omega)) e3⟩)
    (fun n i s hi h hw => ⟨pk_in x 8 hx, pk_lt 4 i (fun z => absurd z (by omega)) (fun _ => pk_eq i l
      (fun z => nm_r (nI_1 i) (hw _ (h.trans (if_pos z).symm)))
      (fun z => ⟨sh_in5 hx hi, sh_in60 h5 hx hi, nm_e (nm_r (nI_1 i) (hw _ (by rw [sh_q5 h5 hx hi, h]; exact (if_neg z).symm)))⟩)) e3⟩)
theorem sh_loadWords {post : St2 → Prop} (hx : x < 8) (h3 : a3 x = nI 4) (h5 : sh_Cells x q a5) (hp : ∀ b7 : Nat → Int32, (∀ j, j < 4 → b7 j = a1 (q j)) → post (t, dr, mn, a1, a2, a3, a4, a5, a6, b7, a8)) : wpX_loadWords post (t, dr, mn, a1, a2, a3, a4, a5, a6, a7, a8) (nI x) := by
  have e3 : a3 (nI x).toNatClampNeg = nI 4 := by rw [sh_cl (by omega)]; exact h3
  exact pk_loop (fun n i s => wX_loadWords_2 post (nI x) t dr mn n (nI i) a1 a2 a3 a4 a5 a6 s a8) (fun i s => ∀ j, j < i → s j = a1 (q j)) 4 0 a7 (by omega) (fun j hj => absurd hj (by omega))
    (fun n s h => ⟨pk_in x 8 hx, pk_le 4 4 (fun _ => hp s h) (fun z => absurd z (by omega)) e3⟩)
    (fun n i s hi h hw => ⟨pk_in x 8 hx, pk_le 4 i (fun z => absurd z (by omega)) (fun _ => ⟨sh_in5 hx (by omega), sh_in60 h5 hx (by omega), pk_in i 4 hi,
      nm_e (nm_r (nI_1 i) (hw _ (sh_fill (f := fun j => a1 (q j)) (sh_cl (by omega)) h (by rw [sh_q5 h5 hx (by omega)]))))⟩) e3⟩)
/-! what a column holds: w's words and their parity, the column cd wrong by m -/
def sh_W (w : Nat → Int32) (c : Nat) : Int32 := if c < 4 then w c else ((w 0 ^^^ w 1) ^^^ w 2) ^^^ w 3
def sh_V (w : Nat → Int32) (m : Int32) (cd c : Nat) : Int32 := if c = cd then sh_W w c ^^^ m else sh_W w c
theorem sh_xe {a b : Int32} (h : ∀ i, a.toBitVec.getLsbD i = b.toBitVec.getLsbD i) : a = b := Int32.toBitVec_inj.mp (BitVec.eq_of_getLsbD_eq (fun i _ => h i))
theorem sh_rbA (v : Nat → Int32) (l : Nat) (hl : l < 5) : sh_rb v l 5 = ((((v 0 ^^^ v 1) ^^^ v 2) ^^^ v 3) ^^^ v 4) ^^^ v l := by
  have hl' : l = 0 ∨ l = 1 ∨ l = 2 ∨ l = 3 ∨ l = 4 := by omega
  generalize h0 : v 0 = z0
  generalize h1 : v 1 = z1
  generalize h2 : v 2 = z2
  generalize h3 : v 3 = z3
  generalize h4 : v 4 = z4
  rcases hl' with g | g | g | g | g <;> subst g <;> simp only [sh_rb, h0, h1, h2, h3, h4] <;> apply sh_xe <;> intro i <;>
    simp [Int32.toBitVec_xor, BitVec.getLsbD_xor] <;>
    cases z0.toBitVec.getLsbD i <;> cases z1.toBitVec.getLsbD i <;> cases z2.toBitVec.getLsbD i <;> cases z3.toBitVec.getLsbD i <;> cases z4.toBitVec.getLsbD i <;> rfl
theorem sh_tot (w : Nat → Int32) (m : Int32) (cd : Nat) (hcd : cd < 5) : ((((sh_V w m cd 0 ^^^ sh_V w m cd 1) ^^^ sh_V w m cd 2) ^^^ sh_V w m cd 3) ^^^ sh_V w m cd 4) = m := by
  have hl' : cd = 0 ∨ cd = 1 ∨ cd = 2 ∨ cd = 3 ∨ cd = 4 := by omega
  have e0 : sh_W w 0 = w 0 := rfl
  have e1 : sh_W w 1 = w 1 := rfl
  have e2 : sh_W w 2 = w 2 := rfl
  have e3 : sh_W w 3 = w 3 := rfl
  have e4 : sh_W w 4 = ((w 0 ^^^ w 1) ^^^ w 2) ^^^ w 3 := rfl
  unfold sh_V
  rw [e0, e1, e2, e3, e4]
  generalize w 0 = z0
  generalize w 1 = z1
  generalize w 2 = z2
  generalize w 3 = z3
  rcases hl' with g | g | g | g | g <;> subst g <;> apply sh_xe <;> intro i <;>
    simp [Int32.toBitVec_xor, BitVec.getLsbD_xor] <;>
    cases z0.toBitVec.getLsbD i <;> cases z1.toBitVec.getLsbD i <;> cases z2.toBitVec.getLsbD i <;> cases z3.toBitVec.getLsbD i <;> cases m.toBitVec.getLsbD i <;> rfl
theorem sh_rbE {v v' : Nat → Int32} {l : Nat} (n : Nat) (h : ∀ c, c < n → c ≠ l → v c = v' c) : sh_rb v l n = sh_rb v' l n := by
  induction n with
  | zero => rfl
  | succ n ih =>
    show (if n = l then sh_rb v l n else sh_rb v l n ^^^ v n) = if n = l then sh_rb v' l n else sh_rb v' l n ^^^ v' n
    rw [ih (fun c hc hn => h c (by omega) hn)]
    by_cases g : n = l
    · rw [if_pos g, if_pos g]
    · rw [if_neg g, if_neg g, h n (by omega) g]
theorem sh_rbV {v : Nat → Int32} {l : Nat} (hl : l < 5) (hcd : cd < 5) (h : ∀ c, c < 5 → v c = sh_V w m cd c) : sh_rb v l 5 = m ^^^ sh_V w m cd l := by
  rw [sh_rbE 5 (v' := sh_V w m cd) (fun c hc _ => h c hc), sh_rbA _ l hl, sh_tot w m cd hcd]
/-- a column rebuilt out of the others, which are right -/
theorem sh_rbW {v : Nat → Int32} {l : Nat} (hl : l < 5) (h : ∀ c, c < 5 → c ≠ l → v c = sh_W w c) : sh_rb v l 5 = sh_W w l := by
  have e : ∀ c, sh_V w 0 0 c = sh_W w c := by
    intro c
    unfold sh_V
    by_cases g : c = 0
    · rw [if_pos g, Int32.xor_zero]
    · rw [if_neg g]
  rw [sh_rbE 5 (v' := sh_V w 0 0) (fun c hc hn => (h c hc hn).trans (e c).symm), sh_rbV (cd := 0) (m := 0) hl (by omega) (fun c _ => rfl), Int32.zero_xor, e]
end
end
section
section
variable {t dr mn : Int32} {a1 a2 a3 a4 a5 a6 a7 a8 : Nat → Int32} {w : Nat → Int32} {m : Int32} {cd x : Nat} {q : Nat → Nat}
/-- one extent: its width, its check word, its cells and what they hold -/
def sh_Ext (w : Nat → Int32) (m : Int32) (cd x : Nat) (q : Nat → Nat) (a1 a3 a4 a5 : Nat → Int32) : Prop :=
  a3 x = nI 4 ∧ a4 x = sh_chk w ∧ sh_Cells x q a5 ∧ ∀ c, c < 5 → a1 (q c) = sh_V w m cd c
theorem sh_Vn {c : Nat} (h : c ≠ cd) : sh_V w m cd c = sh_W w c := if_neg h
theorem sh_Vs : sh_V w m cd cd = sh_W w cd ^^^ m := if_pos rfl
theorem sh_V0 {c : Nat} : sh_V w 0 cd c = sh_W w c := by
  unfold sh_V
  by_cases g : c = cd
  · rw [if_pos g, Int32.xor_zero]
  · rw [if_neg g]
theorem sh_Wl {c : Nat} (h : c < 4) : sh_W w c = w c := if_pos h
theorem sh_xc (a b : Int32) : a ^^^ (b ^^^ a) = b := by
  rw [Int32.xor_comm b a, ← Int32.xor_assoc, Int32.xor_self, Int32.zero_xor]
/-- the words read are right if no data column is damaged -/
theorem sh_okV {v : Nat → Int32} (h : ¬ (m ≠ 0 ∧ cd < 4)) (hv : ∀ j, j < 4 → v j = sh_V w m cd j) : ∀ j, j < 4 → v j = w j := by
  intro j hj
  rw [hv j hj]
  by_cases g : m = 0
  · rw [g, sh_V0, sh_Wl hj]
  · have : ¬ cd < 4 := fun k => h ⟨g, k⟩
    rw [sh_Vn (by omega), sh_Wl hj]
/-- a damaged word is seen -/
theorem sh_seen {v : Nat → Int32} (hm : m ≠ 0) (hc : cd < 4) (hv : ∀ j, j < 4 → v j = sh_V w m cd j) : ¬ sh_chk v = sh_chk w := by
  intro e
  refine hm (sh_d1 hc (d := fun j => if j = cd then m else 0) (fun j => rfl) (sh_ckd (fun j hj => ?_) e))
  show v j = w j ^^^ (if j = cd then m else 0)
  rw [hv j hj]
  by_cases g : j = cd
  · rw [if_pos g, g, sh_Vs, sh_Wl hc]
  · rw [if_neg g, sh_Vn g, sh_Wl hj, Int32.xor_zero]
/-- another word rebuilt: still seen -/
theorem sh_seen2 {v : Nat → Int32} {k : Nat} (hm : m ≠ 0) (hc : cd < 4) (hk : k < cd) (hv : ∀ j, j < 4 → v j = sh_V w m cd j) : ¬ sh_chk (upd v k (m ^^^ sh_V w m cd k)) = sh_chk w := by
  intro e
  refine hm (sh_d2 hc hk (d := fun j => if j = cd ∨ j = k then m else 0) (fun j => rfl) (sh_ckd (fun j hj => ?_) e))
  show upd v k (m ^^^ sh_V w m cd k) j = w j ^^^ (if j = cd ∨ j = k then m else 0)
  by_cases g : j = k
  · rw [if_pos (Or.inr g), g, pk_us, sh_Vn (by omega), sh_Wl (by omega), Int32.xor_comm]
  · rw [pk_un g, hv j hj]
    by_cases g2 : j = cd
    · rw [if_pos (Or.inl g2), g2, sh_Vs, sh_Wl hc]
    · rw [if_neg (by omega), sh_Vn g2, sh_Wl hj, Int32.xor_zero]
theorem sh_fixed {v : Nat → Int32} (hc : cd < 4) (hv : ∀ j, j < 4 → v j = sh_V w m cd j) : ∀ j, j < 4 → upd v cd (m ^^^ sh_V w m cd cd) j = w j := by
  intro j hj
  by_cases g : j = cd
  · rw [g, pk_us, sh_Vs, sh_xc, sh_Wl hc]
  · rw [pk_un g, hv j hj, sh_Vn g, sh_Wl hj]
theorem sh_back {v : Nat → Int32} {k : Nat} {y z : Int32} (hz : z = v k) : ∀ j, upd (upd v k y) k z j = v j := by
  intro j
  by_cases g : j = k
  · rw [g, pk_us, hz]
  · rw [pk_un g, pk_un g]
theorem sh_recover {post : Int32 → St2 → Prop} (hx : x < 8) (hcd : cd < 5) (h : sh_Ext w m cd x q a1 a3 a4 a5)
    (hp : ∀ b7 : Nat → Int32, (∀ j, j < 4 → b7 j = w j) → post (if m ≠ 0 ∧ cd < 4 then nI cd else -1) (t, dr, mn, a1, a2, a3, a4, a5, a6, b7, a8)) : wpX_recover post (t, dr, mn, a1, a2, a3, a4, a5, a6, a7, a8) (nI x) := by
  obtain ⟨h3, h4, h5, h1⟩ := h
  have e3 : a3 (nI x).toNatClampNeg = nI 4 := by rw [sh_cl (by omega)]; exact h3
  have e4 : a4 (nI x).toNatClampNeg = sh_chk w := by rw [sh_cl (by omega)]; exact h4
  refine ⟨pk_in x 8 hx, nm_r e3 (sh_loadWords hx h3 h5 (fun b7 hb => ?_))⟩
  have hv : ∀ j, j < 4 → b7 j = sh_V w m cd j := fun j hj => (hb j hj).trans (h1 j (by omega))
  refine sh_checkOf ⟨pk_in x 8 hx, ?_⟩
  by_cases hm : m ≠ 0 ∧ cd < 4
  · rw [if_pos hm] at hp
    obtain ⟨hm0, hm4⟩ := hm
    refine br_f (by rw [e4]; exact sh_seen hm0 hm4 hv) ?_
    have rbe : ∀ l, l < 5 → sh_rb (fun c => a1 (q c)) l 5 = m ^^^ sh_V w m cd l := fun l hl => sh_rbV hl hcd h1
    refine pk_loop (fun n i s => wX_recover_33 post (nI x) (nI 4) t dr mn n (nI i) a1 a2 a3 a4 a5 a6 s a8) (fun i s => ∀ j, j < 4 → s j = sh_V w m cd j) cd 0 b7 (by omega) hv ?_ ?_
    · intro n s hs
      refine pk_le 4 cd (fun z => absurd z (by omega)) (fun _ => ⟨pk_in cd 4 hm4, nm_e (sh_rebuilt hx (by omega) h3 h5 ⟨pk_in cd 4 hm4, nm_r (e' := upd s cd (m ^^^ sh_V w m cd cd)) (by rw [rbe cd hcd, sh_cl (by omega)]) (sh_checkOf ⟨pk_in x 8 hx, ?_⟩)⟩)⟩)
      have hf := sh_fixed hm4 hs
      exact br_t (by rw [e4]; exact sh_chE hf) (hp _ hf)
    · intro n i s hi hs hw
      refine pk_le 4 i (fun z => absurd z (by omega)) (fun _ => ⟨pk_in i 4 (by omega), nm_e (sh_rebuilt hx (by omega) h3 h5 ⟨pk_in i 4 (by omega), nm_r (e' := upd s i (m ^^^ sh_V w m cd i)) (by rw [rbe i (by omega), sh_cl (by omega)]) (sh_checkOf ⟨pk_in x 8 hx, ?_⟩)⟩)⟩)
      refine br_f (by rw [e4]; exact sh_seen2 hm0 hm4 hi hs) ⟨pk_in i 4 (by omega), nm_e (nm_r (nI_1 i) (hw _ (fun j hj => ?_)))⟩
      rw [sh_cl (by omega), sh_back rfl]
      exact hs j hj
  · rw [if_neg hm] at hp
    have hok := sh_okV hm hv
    exact br_t (by rw [e4]; exact sh_chE hok) (hp b7 hok)
theorem sh_neg1 : ((-1 : Int32) < 0) := by decide
theorem sh_faulty {post : Int32 → St2 → Prop} (hx : x < 8) (hcd : cd < 5) (h : sh_Ext w m cd x q a1 a3 a4 a5)
    (hp : ∀ b7 : Nat → Int32, (∀ j, j < 4 → b7 j = w j) → post (if m ≠ 0 then nI cd else -5) (t, dr, mn, a1, a2, a3, a4, a5, a6, b7, a8)) : wpX_faulty post (t, dr, mn, a1, a2, a3, a4, a5, a6, a7, a8) (nI x) := by
  have hE := h
  obtain ⟨h3, h4, h5, h1⟩ := h
  have e3 : a3 (nI x).toNatClampNeg = nI 4 := by rw [sh_cl (by omega)]; exact h3
  unfold wpX_faulty
  refine sh_recover hx hcd hE (fun b7 hb => ?_)
  by_cases hm : m ≠ 0 ∧ cd < 4
  · rw [if_pos hm]
    rw [if_pos hm.1] at hp
    exact br_f (nI_pos (by omega)) (hp b7 hb)
  · rw [if_neg hm]
    refine br_t sh_neg1 ⟨pk_in x 8 hx, ?_⟩
    show wpX_rebuilt _ (t, dr, mn, a1, a2, a3, a4, a5, a6, b7, a8) (nI x) (a3 (nI x).toNatClampNeg)
    rw [e3]
    refine sh_rebuilt hx (by omega) h3 h5 ?_
    have rbe : sh_rb (fun c => a1 (q c)) 4 5 = m ^^^ sh_V w m cd 4 := sh_rbV (by omega) hcd h1
    rw [rbe]
    refine ⟨pk_in x 8 hx, sh_in5 hx (by omega), sh_in60 h5 hx (by omega), ?_⟩
    rw [sh_q5 h5 hx (by omega), h1 4 (by omega)]
    by_cases g : m = 0
    · rw [if_neg (show ¬ m ≠ 0 from fun k => k g)] at hp
      exact br_t (by rw [g, Int32.zero_xor]) (hp b7 hb)
    · have hc4 : cd = 4 := by
        have : ¬ cd < 4 := fun k => hm ⟨g, k⟩
        omega
      rw [if_pos (show m ≠ 0 from g), hc4] at hp
      refine br_f (fun z => g ?_) ⟨pk_in x 8 hx, hp b7 hb⟩
      have z2 : m ^^^ sh_V w m cd 4 = 0 ^^^ sh_V w m cd 4 := by
        rw [z, Int32.zero_xor]
      exact (Int32.xor_left_inj _).mp z2
end
end
section
/-! the set of disks in use, as a mask below 32 -/
def sh_pop (u : Nat) : Nat := (u.testBit 0).toNat + (u.testBit 1).toNat + (u.testBit 2).toNat + (u.testBit 3).toNat + (u.testBit 4).toNat
theorem sh_bit : ∀ u, u < 32 → ∀ d, d < 5 → ((((nI u >>> (nI d &&& 31)) &&& 1) = 0) ↔ u.testBit d = false) := by decide +kernel
theorem sh_or : ∀ u, u < 32 → ∀ d, d < 5 → (nI u ||| ((1 : Int32) <<< (nI d &&& 31))) = nI (u ||| 2 ^ d) := by decide +kernel
theorem sh_or32 : ∀ u, u < 32 → ∀ d, d < 5 → u ||| 2 ^ d < 32 := by decide +kernel
theorem sh_orp : ∀ u, u < 32 → ∀ d, d < 5 → u.testBit d = false → sh_pop (u ||| 2 ^ d) = sh_pop u + 1 := by decide +kernel
theorem sh_ors : ∀ u, u < 32 → ∀ d, d < 5 → (u ||| 2 ^ d).testBit d = true := by decide +kernel
theorem sh_oro : ∀ u, u < 32 → ∀ d, d < 5 → ∀ k, k < 5 → u.testBit k = true → (u ||| 2 ^ d).testBit k = true := by decide +kernel
theorem sh_all : ∀ u, u < 32 → ∀ tn, tn < 5 → (∀ k, k < 5 → u.testBit ((tn + k) % 5) = true) → sh_pop u = 5 := by decide +kernel
section
variable {t dr mn : Int32} {a1 a2 a3 a4 a5 a6 a7 a8 : Nat → Int32} {tn d : Nat}
def sh_Room (a2 : Nat → Int32) : Prop := ∀ d, d < 5 → ∃ r, r < 12 ∧ a2 (d * 12 + r) = 0
theorem sh_in12 {r : Nat} (hd : d < 5) (hr : r < 12) : vp_in ((nI d * 12) + nI r) 60 := pk_in (d * 12 + r) 60 (by omega) (sh_i12 d r)
theorem sh_cl12 {r : Nat} (hd : d < 5) (hr : r < 12) : ((nI d * 12) + nI r).toNatClampNeg = d * 12 + r := pk_cl (d * 12 + r) (sh_i12 d r)
theorem sh_freeRow {post : Int32 → Prop} (hd : d < 5) (hr : ∃ r, r < 12 ∧ a2 (d * 12 + r) = 0) (hp : ∀ r, r < 12 → a2 (d * 12 + r) = 0 → post (nI r)) : wpX_freeRow post (t, dr, mn, a1, a2, a3, a4, a5, a6, a7, a8) (nI d) := by
  obtain ⟨r0, ⟨h1, h2⟩, h3⟩ := pk_least (fun k => k < 12 ∧ a2 (d * 12 + k) = 0) hr
  exact pk_loop (σ := Unit) (fun n i _ => wX_freeRow_2 post (nI d) t dr mn a1 a2 a3 a4 a5 a6 a7 a8 n (nI i)) (fun _ _ => True) r0 0 () (by omega) trivial
    (fun n _ _ => pk_le 12 r0 (fun z => absurd z (by omega)) (fun _ => ⟨sh_in12 hd h1, br_t (by rw [sh_cl12 hd h1]; exact h2) (hp r0 h1 h2)⟩))
    (fun n i _ hi _ hw => pk_le 12 i (fun z => absurd z (by omega)) (fun _ => ⟨sh_in12 hd (by omega), br_f (by rw [sh_cl12 hd (by omega)]; exact fun z => h3 i hi ⟨by omega, z⟩) (nm_r (nI_1 i) (hw () trivial))⟩))
theorem sh_freeRows {post : Int32 → Prop} (hd : d < 5) (hr : ∃ r, r < 12 ∧ a2 (d * 12 + r) = 0) (hp : ∀ n, 0 < n → n ≤ 12 → post (nI n)) : wpX_freeRows post (t, dr, mn, a1, a2, a3, a4, a5, a6, a7, a8) (nI d) := by
  refine pk_loop (fun n i s => wX_freeRows_4 post (nI d) t dr mn a1 a2 a3 a4 a5 a6 a7 a8 n s (nI i)) (fun i s => ∃ k, s = nI k ∧ k ≤ i ∧ ((∃ r, r < i ∧ a2 (d * 12 + r) = 0) → 0 < k)) 12 0 0 (by omega) ⟨0, rfl, by omega, fun ⟨r, hr, _⟩ => absurd hr (by omega)⟩ ?_ ?_
  · intro n s ⟨k, e, hk, hpos⟩
    refine pk_le 12 12 (fun _ => ?_) (fun z => absurd z (by omega))
    rw [e]
    exact hp k (hpos hr) hk
  · intro n i s hi ⟨k, e, hk, hpos⟩ hw
    refine pk_le 12 i (fun z => absurd z (by omega)) (fun _ => ⟨sh_in12 hd hi, ?_⟩)
    rw [sh_cl12 hd hi]
    refine br_c (fun g => nm_e (nm_r (nI_1 i) (hw _ ⟨k + 1, by rw [e]; exact nI_1 k, by omega, fun _ => by omega⟩))) (fun g => nm_r (nI_1 i) (hw _ ⟨k, e, by omega, fun ⟨r, hr, hz⟩ => hpos ⟨r, ?_, hz⟩⟩))
    have : r ≠ i := fun z => g (z ▸ hz)
    omega
/-- the cells that choose has picked for the columns below c -/
def sh_Pick (c u : Nat) (q : Nat → Nat) (a2 b8 : Nat → Int32) : Prop :=
  (∀ j, j < c → b8 j = nI (q j) ∧ q j < 60 ∧ a2 (q j) = 0 ∧ u.testBit (q j / 12) = true) ∧ (∀ j j', j < c → j' < c → q j / 12 = q j' / 12 → j = j')
theorem sh_pickS {c u at_ r : Nat} {q : Nat → Nat} {a2 b8 : Nat → Int32} (hu : u < 32) (hat : at_ < 5) (hr : r < 12) (hb : u.testBit at_ = false) (hz : a2 (at_ * 12 + r) = 0) (h : sh_Pick c u q a2 b8) :
    sh_Pick (c + 1) (u ||| 2 ^ at_) (fun j => if j = c then at_ * 12 + r else q j) a2 (upd b8 c (nI (at_ * 12 + r))) := by
  have hdv : (at_ * 12 + r) / 12 = at_ := by omega
  refine ⟨fun j hj => ?_, fun j j' hj hj' he => ?_⟩
  · by_cases g : j = c
    · rw [g]
      show upd b8 c _ c = nI (if c = c then at_ * 12 + r else q c) ∧ (if c = c then at_ * 12 + r else q c) < 60 ∧ a2 (if c = c then at_ * 12 + r else q c) = 0 ∧ (u ||| 2 ^ at_).testBit ((if c = c then at_ * 12 + r else q c) / 12) = true
      rw [if_pos rfl, pk_us, hdv]
      exact ⟨rfl, by omega, hz, sh_ors u hu at_ hat⟩
    · show upd b8 c _ j = nI (if j = c then at_ * 12 + r else q j) ∧ (if j = c then at_ * 12 + r else q j) < 60 ∧ a2 (if j = c then at_ * 12 + r else q j) = 0 ∧ (u ||| 2 ^ at_).testBit ((if j = c then at_ * 12 + r else q j) / 12) = true
      rw [if_neg g, pk_un g]
      obtain ⟨k1, k2, k3, k4⟩ := h.1 j (by omega)
      exact ⟨k1, k2, k3, sh_oro u hu at_ hat _ (by omega) k4⟩
  · have he' : (if j = c then at_ * 12 + r else q j) / 12 = (if j' = c then at_ * 12 + r else q j') / 12 := he
    by_cases g : j = c
    · by_cases g' : j' = c
      · rw [g, g']
      · rw [if_pos g, if_neg g', hdv] at he'
        have k4 := (h.1 j' (by omega)).2.2.2
        rw [← he', hb] at k4
        exact absurd k4 (by decide)
    · by_cases g' : j' = c
      · rw [if_neg g, if_pos g', hdv] at he'
        have k4 := (h.1 j (by omega)).2.2.2
        rw [he', hb] at k4
        exact absurd k4 (by decide)
      · rw [if_neg g, if_neg g'] at he'
        exact h.2 j j' (by omega) (by omega) he'
theorem sh_rem5 {a b : Nat} (ha : a < 5) (hb : b < 5) : (nI a + nI b) - (nI a + nI b) / 5 * 5 = nI ((a + b) % 5) := by
  rw [nI_add]
  exact pk_rem (a := a + b) (d := 5) (by omega) (by decide) (by decide)
/-- the inner loop: it ends with a disk that isn't in use -/
theorem sh_choose18 {post : St2 → Prop} {J : Int32 → Int32 → (Nat → Int32) → (Nat → Int32) → (Nat → Int32) → (Nat → Int32) → (Nat → Int32) → (Nat → Int32) → (Nat → Int32) → (Nat → Int32) → Prop} {u c : Nat} (htn : tn < 5) (hroom : sh_Room a2) (hu : u < 32) (hc : c < 5) (hpop : sh_pop u = c)
    (H : ∀ d r, d < 5 → r < 12 → u.testBit d = false → a2 (d * 12 + r) = 0 → J (nI (u ||| 2 ^ d)) (nI (c + 1)) a1 a2 a3 a4 a5 a6 a7 (upd a8 c (nI (d * 12 + r)))) :
    ∃ n, wX_choose_18 post J (nI 5) (nI u) (nI c) (nI tn) dr mn a1 a2 a3 a4 a5 a6 a7 a8 n (-1) 0 0 := by
  have h84 : ∀ d, d < 5 → u.testBit d = false → wX_choose_84 post J (nI 5) (nI u) (nI c) (nI d) (nI tn) dr mn a1 a2 a3 a4 a5 a6 a7 a8 := by
    intro d hd hb
    refine sh_freeRow hd (hroom d hd) (fun r hr hz => ⟨pk_in c 5 hc, nm_r (e' := upd a8 c (nI (d * 12 + r))) (by rw [sh_i12, sh_cl (by omega)]) (nm_r (sh_or u hu d hd) (nm_r (nI_1 c) ?_))⟩)
    exact H d r hd hr hb hz
  refine pk_loop (σ := Int32 × Int32) (fun n i s => wX_choose_18 post J (nI 5) (nI u) (nI c) (nI tn) dr mn a1 a2 a3 a4 a5 a6 a7 a8 n s.1 s.2 (nI i)) (fun i s => (s.1 = -1 ∧ s.2 = 0 ∧ ∀ k, k < i → u.testBit ((tn + k) % 5) = true) ∨ (∃ d r, d < 5 ∧ u.testBit d = false ∧ s.1 = nI d ∧ s.2 = nI r ∧ r ≤ 12)) 5 0 (-1, 0) (by omega) (Or.inl ⟨rfl, rfl, fun k hk => absurd hk (by omega)⟩) ?_ ?_
  · intro n s h
    refine pk_le 5 5 (fun _ => ?_) (fun z => absurd z (by omega))
    rcases h with ⟨_, _, h⟩ | ⟨d, r, hd, hb, e1, e2, hr⟩
    · have := sh_all u hu tn htn h
      omega
    · rw [e1]
      exact br_t (nI_pos' (by omega)) (h84 d hd hb)
  · intro n i s hi h hw
    refine pk_le 5 i (fun z => absurd z (by omega)) (fun _ => ⟨by decide, nm_r (sh_rem5 htn hi) ?_⟩)
    have hd : (tn + i) % 5 < 5 := Nat.mod_lt _ (by omega)
    refine sh_freeRows hd (hroom _ hd) (fun f hf0 hf => ?_)
    refine br_c (fun g => ?_) (fun g => nm_r (nI_1 i) (hw s ?_))
    · have hb := (sh_bit u hu _ hd).mp g
      refine br_c (fun z => nm_r (nI_1 i) (hw s ?_)) (fun z => nm_r (nI_1 i) (hw (nI ((tn + i) % 5), nI f) (Or.inr ⟨_, f, hd, hb, rfl, rfl, hf⟩)))
      rcases h with ⟨e1, e2, h⟩ | h
      · rw [e2] at z
        exact absurd z (nI_nle hf0 (by omega))
      · exact Or.inr h
    · have hb : u.testBit ((tn + i) % 5) = true := by
        cases q : u.testBit ((tn + i) % 5) with
        | true => rfl
        | false => exact absurd ((sh_bit u hu _ hd).mpr q) g
      rcases h with ⟨e1, e2, h⟩ | h
      · exact Or.inl ⟨e1, e2, lt_s h hb⟩
      · exact Or.inr h
/-- the cells of a new stripe: free ones, each on a disk of its own -/
def sh_New (q : Nat → Nat) (a2 b8 : Nat → Int32) : Prop :=
  (∀ c, c < 5 → b8 c = nI (q c) ∧ q c < 60 ∧ a2 (q c) = 0) ∧ (∀ c c', c < 5 → c' < 5 → q c / 12 = q c' / 12 → c = c')
theorem sh_choose {post : St2 → Prop} (htn : tn < 5) (hroom : sh_Room a2) (hp : ∀ (tn' : Nat) (q : Nat → Nat) (b8 : Nat → Int32), tn' < 5 → sh_New q a2 b8 → post (nI tn', dr, mn, a1, a2, a3, a4, a5, a6, a7, b8)) : wpX_choose post (nI tn, dr, mn, a1, a2, a3, a4, a5, a6, a7, a8) (nI 5) := by
  refine pk_loop (σ := Int32 × (Nat → Int32)) (fun n i s => wX_choose_4 post (nI 5) (nI tn) dr mn n s.1 (nI i) a1 a2 a3 a4 a5 a6 a7 s.2) (fun i s => ∃ u q, u < 32 ∧ s.1 = nI u ∧ sh_pop u = i ∧ sh_Pick i u q a2 s.2) 5 0 (0, a8) (by omega) ⟨0, fun _ => 0, by omega, rfl, by decide, fun j hj => absurd hj (by omega), fun j j' hj => absurd hj (by omega)⟩ ?_ ?_
  · intro n s ⟨u, q, hu, e, hpop, hk⟩
    have hN : sh_New q a2 s.2 := ⟨fun c hc => ⟨(hk.1 c hc).1, (hk.1 c hc).2.1, (hk.1 c hc).2.2.1⟩, hk.2⟩
    refine pk_le 5 5 (fun _ => ?_) (fun z => absurd z (by omega))
    exact pk_eq (tn + 1) 5 (fun z => hp 0 q s.2 (by omega) hN) (fun z => nm_r (nI_1 tn) (hp (tn + 1) q s.2 (by omega) hN)) (nI_1 tn)
  · intro n i s hi ⟨u, q, hu, e, hpop, hk⟩ hw
    refine pk_le 5 i (fun z => absurd z (by omega)) (fun _ => ?_)
    show ∃ n', wX_choose_18 post (wX_choose_4 post (nI 5) (nI tn) dr mn n) (nI 5) s.1 (nI i) (nI tn) dr mn a1 a2 a3 a4 a5 a6 a7 s.2 n' (-1) 0 0
    rw [e]
    refine sh_choose18 htn hroom hu hi hpop (fun d r hd hr hb hz => ?_)
    exact hw (nI (u ||| 2 ^ d), upd s.2 i (nI (d * 12 + r))) ⟨u ||| 2 ^ d, _, sh_or32 u hu d hd, rfl, by rw [sh_orp u hu d hd hb, hpop], sh_pickS hu hd hr hb hz hk⟩
end
end
section
section
variable {t dr mn : Int32} {a1 a2 a3 a4 a5 a6 a7 a8 : Nat → Int32} {w : Nat → Int32} {tn x : Nat} {q : Nat → Nat}
theorem sh_free0 {post : St2 → Prop} (hx : x < 8) (h3 : a3 x = 0) (hp : post (t, dr, mn, a1, a2, a3, a4, a5, a6, a7, a8)) : wpX_free post (t, dr, mn, a1, a2, a3, a4, a5, a6, a7, a8) (nI x) :=
  ⟨pk_in x 8 hx, br_t (by rw [sh_cl (by omega)]; exact h3) hp⟩
theorem sh_free4 {post : St2 → Prop} (hx : x < 8) (h3 : a3 x = nI 4) (h5 : sh_Cells x q a5)
    (hp : ∀ b2 : Nat → Int32, (∀ c, c < 5 → b2 (q c) = 0) → (∀ j, (∀ c, c < 5 → j ≠ q c) → b2 j = a2 j) → post (t, dr, mn, a1, b2, upd a3 x 0, a4, a5, a6, a7, a8)) : wpX_free post (t, dr, mn, a1, a2, a3, a4, a5, a6, a7, a8) (nI x) := by
  have e3 : a3 (nI x).toNatClampNeg = nI 4 := by rw [sh_cl (by omega)]; exact h3
  refine ⟨pk_in x 8 hx, br_f (by rw [e3]; decide) ?_⟩
  refine pk_loop (fun n i s => wX_free_12 post (nI x) t dr mn n (nI i) a1 s a3 a4 a5 a6 a7 a8) (fun i s => (∀ c, c < i → s (q c) = 0) ∧ (∀ j, (∀ c, c < i → j ≠ q c) → s j = a2 j)) 5 0 a2 (by omega) ⟨fun c hc => absurd hc (by omega), fun j _ => rfl⟩ ?_ ?_
  · intro n s h
    exact ⟨pk_in x 8 hx, pk_lt 4 5 (fun _ => ⟨pk_in x 8 hx, nm_r (e' := upd a3 x 0) (by rw [sh_cl (by omega)]) (hp s h.1 h.2)⟩) (fun z => absurd z (by omega)) e3⟩
  · intro n i s hi h hw
    refine ⟨pk_in x 8 hx, pk_lt 4 i (fun z => absurd z (by omega)) (fun _ => ⟨sh_in5 hx hi, sh_in60 h5 hx hi, nm_r (e' := upd s (q i) 0) (by rw [sh_q5 h5 hx hi]) (nm_r (nI_1 i) (hw _ ⟨fun c hc => ?_, fun j hj => ?_⟩))⟩) e3⟩
    · by_cases g : q c = q i
      · rw [g, pk_us]
      · rw [pk_un g]
        have : c ≠ i := fun z => g (by rw [z])
        exact h.1 c (by omega)
    · rw [pk_un (hj i (by omega))]
      exact h.2 j (fun c hc => hj c (by omega))
/-- the parity of the words below c -/
def sh_par (w : Nat → Int32) : Nat → Int32
  | 0 => 0
  | n + 1 => sh_par w n ^^^ w n
theorem sh_par4 : sh_par w 4 = sh_W w 4 := by
  show (((0 ^^^ w 0) ^^^ w 1) ^^^ w 2) ^^^ w 3 = ((w 0 ^^^ w 1) ^^^ w 2) ^^^ w 3
  rw [Int32.zero_xor]
/-- what place has done: new cells q; the old ones (p, if old) are given up -/
def sh_Placed (w : Nat → Int32) (x : Nat) (old : Prop) (p q : Nat → Nat) (a1 a2 a3 a4 a5 b1 b2 b3 b4 b5 : Nat → Int32) : Prop :=
  (∀ c, c < 5 → q c < 60 ∧ a2 (q c) = 0 ∧ b1 (q c) = sh_W w c) ∧ (∀ c c', c < 5 → c' < 5 → q c / 12 = q c' / 12 → c = c') ∧
  (∀ j, (∀ c, c < 5 → j ≠ q c) → b1 j = a1 j) ∧
  (∀ c, c < 5 → (old → ∀ c', c' < 5 → q c ≠ p c') → b2 (q c) ≠ 0) ∧
  (∀ j, (∀ c, c < 5 → j ≠ q c) → (old → ∀ c, c < 5 → j ≠ p c) → b2 j = a2 j) ∧
  (old → ∀ c, c < 5 → b2 (p c) = 0) ∧
  b3 x = nI 4 ∧ (∀ y, y ≠ x → b3 y = a3 y) ∧ b4 x = sh_chk w ∧ (∀ y, y ≠ x → b4 y = a4 y) ∧
  (∀ c, c < 5 → b5 (x * 5 + c) = nI (q c)) ∧ (∀ j, (∀ c, c < 5 → j ≠ x * 5 + c) → b5 j = a5 j)
theorem sh_place119 {post : St2 → Prop} (hx : x < 8) (h8 : ∀ c, c < 5 → a8 c = nI (q c))
    (hp : ∀ b5 : Nat → Int32, (∀ c, c < 5 → b5 (x * 5 + c) = nI (q c)) → (∀ j, (∀ c, c < 5 → j ≠ x * 5 + c) → b5 j = a5 j) → post (t, dr, mn, a1, a2, a3, a4, b5, a6, a7, a8)) : ∃ n, wX_place_119 post (nI x) (nI 4) t dr mn n 0 a1 a2 a3 a4 a5 a6 a7 a8 := by
  refine pk_loop (fun n i s => wX_place_119 post (nI x) (nI 4) t dr mn n (nI i) a1 a2 a3 a4 s a6 a7 a8) (fun i s => (∀ c, c < i → s (x * 5 + c) = nI (q c)) ∧ (∀ j, (∀ c, c < i → j ≠ x * 5 + c) → s j = a5 j)) 5 0 a5 (by omega) ⟨fun c hc => absurd hc (by omega), fun j _ => rfl⟩ ?_ ?_
  · intro n s h
    exact pk_lt 4 5 (fun _ => hp s h.1 h.2) (fun z => absurd z (by omega))
  · intro n i s hi h hw
    refine pk_lt 4 i (fun z => absurd z (by omega)) (fun _ => ⟨pk_in i 5 hi, sh_in5 hx hi, nm_r (e' := upd s (x * 5 + i) (nI (q i))) (by rw [sh_i5, sh_cl (by omega), sh_cl (by omega), h8 i hi]) (nm_r (nI_1 i) (hw _ ⟨fun c hc => ?_, fun j hj => ?_⟩))⟩)
    · by_cases g : c = i
      · rw [g, pk_us]
      · rw [pk_un (by omega)]
        exact h.1 c (by omega)
    · rw [pk_un (hj i (by omega))]
      exact h.2 j (fun c hc => hj c (by omega))
/-- marks the new cells, frees the old ones, writes the pointers -/
theorem sh_place68 {post : St2 → Prop} {p : Nat → Nat} {old : Prop} (hx : x < 8) (hw7 : ∀ j, j < 4 → a7 j = w j) (h8 : ∀ c, c < 5 → a8 c = nI (q c) ∧ q c < 60)
    (ho : (old ∧ a3 x = nI 4 ∧ sh_Cells x p a5) ∨ (¬ old ∧ a3 x = 0))
    (hp : ∀ b2 b3 b4 b5 : Nat → Int32, (∀ c, c < 5 → (old → ∀ c', c' < 5 → q c ≠ p c') → b2 (q c) ≠ 0) → (∀ j, (∀ c, c < 5 → j ≠ q c) → (old → ∀ c, c < 5 → j ≠ p c) → b2 j = a2 j) → (old → ∀ c, c < 5 → b2 (p c) = 0) →
      b3 x = nI 4 → (∀ y, y ≠ x → b3 y = a3 y) → b4 x = sh_chk w → (∀ y, y ≠ x → b4 y = a4 y) → (∀ c, c < 5 → b5 (x * 5 + c) = nI (q c)) → (∀ j, (∀ c, c < 5 → j ≠ x * 5 + c) → b5 j = a5 j) → post (t, dr, mn, a1, b2, b3, b4, b5, a6, a7, a8)) :
    ∃ n, wX_place_68 post (nI x) (nI 4) t dr mn n 0 a1 a2 a3 a4 a5 a6 a7 a8 := by
  have tail : ∀ b2 b3 : Nat → Int32, (∀ y, y ≠ x → b3 y = a3 y) → (∀ c, c < 5 → (old → ∀ c', c' < 5 → q c ≠ p c') → b2 (q c) ≠ 0) → (∀ j, (∀ c, c < 5 → j ≠ q c) → (old → ∀ c, c < 5 → j ≠ p c) → b2 j = a2 j) → (old → ∀ c, c < 5 → b2 (p c) = 0) →
      (vp_in (nI x) 8 ∧ ∀ b3' : Nat → Int32, b3' = upd b3 (nI x).toNatClampNeg (nI 4) → (wpX_checkOf (fun r => (vp_in (nI x) 8 ∧ ∀ b4 : Nat → Int32, b4 = upd a4 (nI x).toNatClampNeg r → (∃ n, wX_place_119 post (nI x) (nI 4) t dr mn n 0 a1 b2 b3' b4 a5 a6 a7 a8))) (t, dr, mn, a1, b2, b3', a4, a5, a6, a7, a8) (nI 4))) := by
    intro b2 b3 k3 k1 k2 k4
    refine ⟨pk_in x 8 hx, nm_r (e' := upd b3 x (nI 4)) (by rw [sh_cl (by omega)]) (sh_checkOf ⟨pk_in x 8 hx, nm_r (e' := upd a4 x (sh_chk w)) (by rw [sh_cl (by omega), sh_chE hw7]) (sh_place119 hx (fun c hc => (h8 c hc).1) (fun b5 k5 k6 => ?_))⟩)⟩
    exact hp b2 (upd b3 x (nI 4)) (upd a4 x (sh_chk w)) b5 k1 k2 k4 pk_us (fun y hy => by rw [pk_un hy]; exact k3 y hy) pk_us (fun y hy => pk_un hy) k5 k6
  refine pk_loop (fun n i s => wX_place_68 post (nI x) (nI 4) t dr mn n (nI i) a1 s a3 a4 a5 a6 a7 a8) (fun i s => (∀ c, c < i → s (q c) = 1) ∧ (∀ j, (∀ c, c < i → j ≠ q c) → s j = a2 j)) 5 0 a2 (by omega) ⟨fun c hc => absurd hc (by omega), fun j _ => rfl⟩ ?_ ?_
  · intro n s h
    refine pk_lt 4 5 (fun _ => ?_) (fun z => absurd z (by omega))
    rcases ho with ⟨o, k3, k5⟩ | ⟨o, k3⟩
    · refine sh_free4 hx k3 k5 (fun b2 f1 f2 => ?_)
      refine tail b2 (upd a3 x 0) (fun y hy => pk_un hy) (fun c hc hn => ?_) (fun j hj hn => ?_) (fun _ c hc => f1 c hc)
      · rw [f2 (q c) (fun c' hc' => hn o c' hc'), h.1 c hc]
        decide
      · rw [f2 j (hn o)]
        exact h.2 j hj
    · refine sh_free0 hx k3 ?_
      refine tail s a3 (fun y hy => rfl) (fun c hc hn => ?_) (fun j hj hn => h.2 j hj) (fun z => absurd z o)
      rw [h.1 c hc]
      decide
  · intro n i s hi h hw
    have hq := h8 i hi
    have e8 : a8 (nI i).toNatClampNeg = nI (q i) := by rw [sh_cl (by omega)]; exact hq.1
    refine pk_lt 4 i (fun z => absurd z (by omega)) (fun _ => ⟨pk_in i 5 hi, pk_in (q i) 60 hq.2 e8, nm_r (e' := upd s (q i) 1) (by rw [e8, sh_cl hq.2]) (nm_r (nI_1 i) (hw _ ⟨fun c hc => ?_, fun j hj => ?_⟩))⟩)
    · by_cases g : q c = q i
      · rw [g, pk_us]
      · rw [pk_un g]
        have : c ≠ i := fun z => g (by rw [z])
        exact h.1 c (by omega)
    · rw [pk_un (hj i (by omega))]
      exact h.2 j (fun c hc => hj c (by omega))
theorem sh_place {post : St2 → Prop} {p : Nat → Nat} {old : Prop} (htn : tn < 5) (hroom : sh_Room a2) (hx : x < 8) (hw7 : ∀ j, j < 4 → a7 j = w j)
    (ho : (old ∧ a3 x = nI 4 ∧ sh_Cells x p a5) ∨ (¬ old ∧ a3 x = 0))
    (hp : ∀ (tn' : Nat) (q : Nat → Nat) (b1 b2 b3 b4 b5 b8 : Nat → Int32), tn' < 5 → sh_Placed w x old p q a1 a2 a3 a4 a5 b1 b2 b3 b4 b5 → post (nI tn', dr, mn, b1, b2, b3, b4, b5, a6, a7, b8)) :
    wpX_place post (nI tn, dr, mn, a1, a2, a3, a4, a5, a6, a7, a8) (nI x) (nI 4) := by
  show wpX_choose _ (nI tn, dr, mn, a1, a2, a3, a4, a5, a6, a7, a8) (nI 4 + 1)
  rw [nI_1 4]
  refine sh_choose htn hroom (fun tn' q b8 htn' hN => ?_)
  have inj : ∀ c c', c < 5 → c' < 5 → q c = q c' → c = c' := fun c c' hc hc' e => hN.2 c c' hc hc' (by rw [e])
  refine pk_loop (σ := Int32 × (Nat → Int32)) (fun n i s => wX_place_12 post (nI x) (nI 4) (nI tn') dr mn n s.1 (nI i) s.2 a2 a3 a4 a5 a6 a7 b8) (fun i s => s.1 = sh_par w i ∧ (∀ c, c < i → s.2 (q c) = w c) ∧ (∀ j, (∀ c, c < i → j ≠ q c) → s.2 j = a1 j)) 4 0 (0, a1) (by omega) ⟨rfl, fun c hc => absurd hc (by omega), fun j _ => rfl⟩ ?_ ?_
  · intro n s h
    obtain ⟨h1, h2, h3⟩ := h
    obtain ⟨e8, hq, _⟩ := hN.1 4 (by omega)
    have e8' : b8 (nI 4).toNatClampNeg = nI (q 4) := e8
    refine pk_le 4 4 (fun _ => ⟨pk_in 4 5 (by omega), pk_in (q 4) 60 hq e8', nm_r (e' := upd s.2 (q 4) (sh_W w 4)) (by rw [e8', sh_cl hq, h1, sh_par4]) ?_⟩) (fun z => absurd z (by omega))
    refine sh_place68 (old := old) (p := p) (q := q) (w := w) hx hw7 (fun c hc => ⟨(hN.1 c hc).1, (hN.1 c hc).2.1⟩) ho (fun b2 b3 b4 b5 k1 k2 k3 k4 k5 k6 k7 k8 k9 => ?_)
    refine hp tn' q _ b2 b3 b4 b5 b8 htn' ⟨fun c hc => ⟨(hN.1 c hc).2.1, (hN.1 c hc).2.2, ?_⟩, hN.2, fun j hj => ?_, k1, k2, k3, k4, k5, k6, k7, k8, k9⟩
    · by_cases g : c = 4
      · rw [g, pk_us]
      · rw [pk_un (fun z => g (inj c 4 hc (by omega) z)), h2 c (by omega), sh_Wl (by omega)]
    · rw [pk_un (hj 4 (by omega))]
      exact h3 j (fun c hc => hj c (by omega))
  · intro n i s hi h hw
    obtain ⟨h1, h2, h3⟩ := h
    obtain ⟨e8, hq, _⟩ := hN.1 i (by omega)
    have e8' : b8 (nI i).toNatClampNeg = nI (q i) := by rw [sh_cl (by omega)]; exact e8
    have e7' : a7 (nI i).toNatClampNeg = w i := by rw [sh_cl (by omega)]; exact hw7 i hi
    refine pk_le 4 i (fun z => absurd z (by omega)) (fun _ => ⟨pk_in i 5 (by omega), pk_in i 4 hi, pk_in (q i) 60 hq e8', nm_r (e' := upd s.2 (q i) (w i)) (by rw [e8', sh_cl hq, e7']) ⟨pk_in i 4 hi, nm_r (e' := sh_par w (i + 1)) (by rw [e7', h1]; rfl) (nm_r (nI_1 i) (hw (sh_par w (i + 1), upd s.2 (q i) (w i)) ⟨rfl, fun c hc => ?_, fun j hj => ?_⟩))⟩⟩)
    · show upd s.2 (q i) (w i) (q c) = w c
      by_cases g : c = i
      · rw [g, pk_us]
      · rw [pk_un (fun z => g (inj c i (by omega) (by omega) z))]
        exact h2 c (by omega)
    · show upd s.2 (q i) (w i) j = a1 j
      rw [pk_un (hj i (by omega))]
      exact h3 j (fun c hc => hj c (by omega))
end
end
section
section
variable {t dr mn : Int32} {a1 a2 a3 a4 a5 a6 a7 a8 : Nat → Int32} {w : Nat → Int32} {m : Int32} {cd e f : Nat} {P : Nat → Prop} {q : Nat → Nat → Nat}
def sh_mx (m : Int32) (e x : Nat) : Int32 := if x = e then m else 0
theorem sh_mxs : sh_mx m e e = m := if_pos rfl
theorem sh_mxn {x : Nat} (h : x ≠ e) : sh_mx m e x = 0 := if_neg h
theorem sh_mx0 {x : Nat} : sh_mx 0 e x = 0 := by
  by_cases g : x = e
  · rw [g, sh_mxs]
  · exact sh_mxn g
/-- the whole: P x: the extent x is there, its cells are q x -/
def sh_Pic (w : Nat → Int32) (m : Int32) (cd e : Nat) (P : Nat → Prop) (q : Nat → Nat → Nat) (a1 a2 a3 a4 a5 : Nat → Int32) : Prop :=
  (∀ x, x < 8 → ¬ P x → a3 x = 0) ∧
  (∀ x, x < 8 → P x → sh_Ext w (sh_mx m e x) cd x (q x) a1 a3 a4 a5) ∧
  (∀ x, x < 8 → P x → ∀ c c', c < 5 → c' < 5 → q x c / 12 = q x c' / 12 → c = c') ∧
  (∀ x, x < 8 → P x → ∀ c, c < 5 → a2 (q x c) ≠ 0) ∧
  (∀ j, j < 60 → a2 j ≠ 0 → ∃ x c, x < 8 ∧ P x ∧ c < 5 ∧ j = q x c) ∧
  (∀ x y, x < 8 → y < 8 → P x → P y → x ≠ y → ∀ c c', c < 5 → c' < 5 → q x c ≠ q y c')
theorem sh_room (h : sh_Pic w m cd e P q a1 a2 a3 a4 a5) (hef : ∀ x, P x → x = e ∨ x = f) : sh_Room a2 := by
  obtain ⟨_, _, hD, _, hU, _⟩ := h
  intro d hd
  by_cases g0 : a2 (d * 12 + 0) = 0
  · exact ⟨0, by omega, g0⟩
  by_cases g1 : a2 (d * 12 + 1) = 0
  · exact ⟨1, by omega, g1⟩
  by_cases g2 : a2 (d * 12 + 2) = 0
  · exact ⟨2, by omega, g2⟩
  have key : ∀ x c c' r r', x < 8 → P x → c < 5 → c' < 5 → r < 12 → r' < 12 → d * 12 + r = q x c → d * 12 + r' = q x c' → r = r' := by
    intro x c c' r r' hx hP hc hc' hr hr' k k'
    have e1 : c = c' := hD x hx hP c c' hc hc' (by rw [← k, ← k']; omega)
    rw [e1] at k
    omega
  obtain ⟨x0, c0, hx0, hP0, hc0, e0⟩ := hU _ (by omega) g0
  obtain ⟨x1, c1, hx1, hP1, hc1, e1⟩ := hU _ (by omega) g1
  obtain ⟨x2, c2, hx2, hP2, hc2, e2⟩ := hU _ (by omega) g2
  have k0 := hef x0 hP0
  have k1 := hef x1 hP1
  have k2 := hef x2 hP2
  have k : x0 = x1 ∨ x0 = x2 ∨ x1 = x2 := by omega
  rcases k with k | k | k
  · rw [← k] at e1
    exact absurd (key x0 c0 c1 0 1 hx0 hP0 hc0 hc1 (by omega) (by omega) e0 e1) (by omega)
  · rw [← k] at e2
    exact absurd (key x0 c0 c2 0 2 hx0 hP0 hc0 hc2 (by omega) (by omega) e0 e2) (by omega)
  · rw [← k] at e2
    exact absurd (key x1 c1 c2 1 2 hx1 hP1 hc1 hc2 (by omega) (by omega) e1 e2) (by omega)
/-- the cells of e are written anew -/
theorem sh_picW {m' : Int32} {cd' : Nat} {b1 : Nat → Int32} (he : e < 8) (hPe : P e) (h : sh_Pic w m cd e P q a1 a2 a3 a4 a5) (h1 : ∀ c, c < 5 → b1 (q e c) = sh_V w m' cd' c) (h2 : ∀ j, (∀ c, c < 5 → j ≠ q e c) → b1 j = a1 j) : sh_Pic w m' cd' e P q b1 a2 a3 a4 a5 := by
  obtain ⟨hA, hB, hD, hT, hU, hN⟩ := h
  refine ⟨hA, fun x hx hP => ?_, hD, hT, hU, hN⟩
  obtain ⟨k3, k4, k5, k1⟩ := hB x hx hP
  refine ⟨k3, k4, k5, fun c hc => ?_⟩
  by_cases g : x = e
  · rw [g, sh_mxs]
    exact h1 c hc
  · rw [h2 _ (fun c' hc' => hN x e hx he hP hPe g c c' hc hc'), k1 c hc, sh_mxn g, sh_mxn g, sh_V0, sh_V0]
def sh_qu (q : Nat → Nat → Nat) (x : Nat) (p : Nat → Nat) (y : Nat) : Nat → Nat := if y = x then p else q y
theorem sh_qus {x : Nat} {p : Nat → Nat} : sh_qu q x p x = p := if_pos rfl
theorem sh_qun {x y : Nat} {p : Nat → Nat} (h : y ≠ x) : sh_qu q x p y = q y := if_neg h
theorem sh_picPlace {x : Nat} {p : Nat → Nat} {b1 b2 b3 b4 b5 : Nat → Int32} (hx : x < 8) (h : sh_Pic w 0 cd e P q a1 a2 a3 a4 a5) (hl : sh_Placed w x (P x) (q x) p a1 a2 a3 a4 a5 b1 b2 b3 b4 b5) :
    sh_Pic w 0 cd e (fun y => y = x ∨ P y) (sh_qu q x p) b1 b2 b3 b4 b5 := by
  obtain ⟨hA, hB, hD, hT, hU, hN⟩ := h
  obtain ⟨l1, l2, l3, l4, l5, l6, l7, l8, l9, l10, l11, l12⟩ := hl
  have apart : ∀ y, y < 8 → P y → ∀ c c', c < 5 → c' < 5 → q y c ≠ p c' := fun y hy hP c c' hc hc' z => hT y hy hP c hc (by rw [z]; exact (l1 c' hc').2.1)
  refine ⟨fun y hy hn => ?_, fun y hy hP => ?_, fun y hy hP => ?_, fun y hy hP c hc => ?_, fun j hj hz => ?_, fun y z hy hz hPy hPz hn c c' hc hc' => ?_⟩
  · rw [l8 y (fun k => hn (Or.inl k))]
    exact hA y hy (fun k => hn (Or.inr k))
  · by_cases g : y = x
    · subst g
      rw [sh_qus, sh_mx0]
      exact ⟨l7, l9, fun c hc => ⟨l11 c hc, (l1 c hc).1⟩, fun c hc => by rw [sh_V0]; exact (l1 c hc).2.2⟩
    · have hP' : P y := hP.resolve_left g
      obtain ⟨k3, k4, k5, k1⟩ := hB y hy hP'
      rw [sh_qun g]
      refine ⟨by rw [l8 y g]; exact k3, by rw [l10 y g]; exact k4, fun c hc => ⟨?_, (k5 c hc).2⟩, fun c hc => ?_⟩
      · rw [l12 _ (fun c' hc' => by omega)]
        exact (k5 c hc).1
      · rw [l3 _ (fun c' hc' => apart y hy hP' c c' hc hc')]
        exact k1 c hc
  · by_cases g : y = x
    · rw [g, sh_qus]
      exact l2
    · rw [sh_qun g]
      exact hD y hy (hP.resolve_left g)
  · by_cases g : y = x
    · rw [g, sh_qus]
      exact l4 c hc (fun o c' hc' z => apart x hx o c' c hc' hc z.symm)
    · have hP' : P y := hP.resolve_left g
      rw [sh_qun g, l5 _ (fun c' hc' => apart y hy hP' c c' hc hc') (fun o c' hc' => hN y x hy hx hP' o g c c' hc hc')]
      exact hT y hy hP' c hc
  · by_cases g : ∃ c, c < 5 ∧ j = p c
    · obtain ⟨c, hc, ej⟩ := g
      exact ⟨x, c, hx, Or.inl rfl, hc, by rw [sh_qus]; exact ej⟩
    · have g1 : ∀ c, c < 5 → j ≠ p c := fun c hc k => g ⟨c, hc, k⟩
      have g2 : P x → ∀ c, c < 5 → j ≠ q x c := fun o c hc k => hz (by rw [k]; exact l6 o c hc)
      have hz' : a2 j ≠ 0 := by
        rw [← l5 j g1 g2]
        exact hz
      obtain ⟨y, c, hy, hP, hc, ej⟩ := hU j hj hz'
      have hyx : y ≠ x := by
        intro k
        rw [k] at ej hP
        exact g2 hP c hc ej
      exact ⟨y, c, hy, Or.inr hP, hc, by rw [sh_qun hyx]; exact ej⟩
  · by_cases g : y = x
    · have gz : z ≠ x := fun k => hn (by rw [g, k])
      rw [g, sh_qus, sh_qun gz]
      exact fun k => apart z hz (hPz.resolve_left gz) c' c hc' hc k.symm
    · by_cases gz : z = x
      · rw [gz, sh_qus, sh_qun g]
        exact apart y hy (hPy.resolve_left g) c c' hc hc'
      · rw [sh_qun g, sh_qun gz]
        exact hN y z hy hz (hPy.resolve_left g) (hPz.resolve_left gz) hn c c' hc hc'
/-- the extents: e, and f if b -/
def sh_P (e f : Nat) (b : Bool) (x : Nat) : Prop := x = e ∨ (b = true ∧ x = f)
theorem sh_Pt {b : Bool} : (fun y => y = f ∨ sh_P e f b y) = sh_P e f true := by
  funext y
  apply propext
  unfold sh_P
  constructor
  · intro k
    rcases k with k | k | ⟨_, k⟩
    · exact Or.inr ⟨rfl, k⟩
    · exact Or.inl k
    · exact Or.inr ⟨rfl, k⟩
  · intro k
    rcases k with k | ⟨_, k⟩
    · exact Or.inr (Or.inl k)
    · exact Or.inl k
theorem sh_Pe {b : Bool} : sh_P e f b e := Or.inl rfl
theorem sh_Pf : sh_P e f true f := Or.inr ⟨rfl, rfl⟩
theorem sh_Pef {b : Bool} : ∀ x, sh_P e f b x → x = e ∨ x = f := by
  intro x k
  rcases k with k | ⟨_, k⟩
  · exact Or.inl k
  · exact Or.inr k
/-- a state: k columns have been mended -/
def sh_St (w : Nat → Int32) (e f : Nat) (m : Int32) (cd : Nat) (b : Bool) (k : Nat) (s : St2) : Prop :=
  ∃ (tn : Nat) (q : Nat → Nat → Nat) (dr : Int32) (a1 a2 a3 a4 a5 a6 a7 a8 : Nat → Int32), tn < 5 ∧ s = (nI tn, dr, nI k, a1, a2, a3, a4, a5, a6, a7, a8) ∧ sh_Pic w m cd e (sh_P e f b) q a1 a2 a3 a4 a5
end
end
section
section
variable {t dr mn : Int32} {a1 a2 a3 a4 a5 a6 a7 a8 : Nat → Int32} {w : Nat → Int32} {m : Int32} {cd e f k : Nat} {b : Bool} {s : St2}
theorem sh_bad {post : Int32 → Prop} {x : Nat} (hx : x < 8) (hp : post 0) : wpX_bad post (t, dr, mn, a1, a2, a3, a4, a5, a6, a7, a8) (nI x) :=
  br_f (nI_pos (by omega)) (br_t (nI_lt (b := 8) hx (by decide)) hp)
theorem sh_m5 : ¬ (-5 : Int32) = 0 := by decide
theorem sh_ne5 {n : Nat} (h : n < 5) : ¬ (-5 : Int32) = nI n := by
  have : ∀ n, n < 5 → ¬ (-5 : Int32) = nI n := by decide
  exact this n h
theorem sh_n5 {n : Nat} (h : n < 5) : ¬ nI n = (-5 : Int32) := fun z => sh_ne5 h z.symm
theorem sh_xz {a c : Int32} (h : a ^^^ c = 0) : c = a := (Int32.xor_eq_zero_iff.mp h).symm
/-- the write of a mask over a column, and the look afterwards -/
theorem sh_damage61 {post : Int32 → St2 → Prop} {q : Nat → Nat → Nat} {c : Nat} {mask : Int32} (he : e < 8) (hc : c < 5) (h : sh_Pic w m cd e (sh_P e f b) q a1 a2 a3 a4 a5) (hm : m = 0 ∨ c = cd)
    (hp : ∀ b1 b7 : Nat → Int32, sh_Pic w (m ^^^ mask) c e (sh_P e f b) q b1 a2 a3 a4 a5 → post (if m ^^^ mask ≠ 0 then 1 else 0) (t, dr, mn, b1, a2, a3, a4, a5, a6, b7, a8)) :
    wX_damage_61 post (nI e) (nI c) mask t dr mn a1 a2 a3 a4 a5 a6 a7 a8 := by
  have hE := h.2.1 e he sh_Pe
  have hD := h.2.2.1 e he sh_Pe
  rw [sh_mxs] at hE
  obtain ⟨h3, h4, h5, h1⟩ := hE
  have hq := (h5 c hc).2
  refine ⟨sh_in5 he hc, nm_r (sh_c5 h5 he hc) ⟨pk_in (q e c) 60 hq, pk_in (q e c) 60 hq, nm_r (e' := upd a1 (q e c) (a1 (q e c) ^^^ mask)) (by rw [sh_cl hq]) ?_⟩⟩
  have hpic : sh_Pic w (m ^^^ mask) c e (sh_P e f b) q (upd a1 (q e c) (a1 (q e c) ^^^ mask)) a2 a3 a4 a5 := by
    refine sh_picW he sh_Pe h (fun c' hc' => ?_) (fun j hj => pk_un (hj c hc))
    by_cases g : c' = c
    · rw [g, pk_us, sh_Vs, h1 c hc]
      rcases hm with hm | hm
      · rw [hm, sh_V0, Int32.zero_xor]
      · rw [hm, sh_Vs, Int32.xor_assoc]
    · rw [pk_un (fun z => g (hD c' c hc' hc (by rw [z]))), sh_Vn g, h1 c' hc']
      rcases hm with hm | hm
      · rw [hm, sh_V0]
      · rw [sh_Vn (by omega)]
  have hE' := hpic.2.1 e he sh_Pe
  rw [sh_mxs] at hE'
  refine sh_faulty he hc hE' (fun b7 _ => ?_)
  have hp' := hp _ b7 hpic
  by_cases g : m ^^^ mask ≠ 0
  · rw [if_pos g]
    rw [if_pos g] at hp'
    exact br_t rfl hp'
  · rw [if_neg g]
    rw [if_neg g] at hp'
    exact br_f (sh_ne5 hc) hp'
theorem sh_damage {post : Int32 → St2 → Prop} {c : Nat} {mask : Int32} (he : e < 8) (hcd : cd < 5) (hc : c < 5) (h : sh_St w e f m cd b k s)
    (h4 : m ≠ 0 → c ≠ cd → ∀ s', sh_St w e f m cd b k s' → post (-4) s')
    (h1 : (m = 0 ∨ c = cd) → ∀ s', sh_St w e f (m ^^^ mask) c b k s' → post (if m ^^^ mask ≠ 0 then 1 else 0) s') :
    wpX_damage post s (nI e) (nI c) mask := by
  obtain ⟨tn, q, dr, a1, a2, a3, a4, a5, a6, a7, a8, htn, rfl, hpic⟩ := h
  have hE := hpic.2.1 e he sh_Pe
  rw [sh_mxs] at hE
  have e3 : a3 (nI e).toNatClampNeg = nI 4 := by rw [sh_cl (by omega)]; exact hE.1
  unfold wpX_damage
  refine sh_bad he (br_t rfl ⟨pk_in e 8 he, br_f (by rw [e3]; decide) (br_f (nI_pos (by omega)) ⟨pk_in e 8 he, br_t (by rw [e3]; exact nI_le (by omega) (by omega)) ?_⟩)⟩)
  refine sh_faulty he hcd hE (fun b7 _ => ?_)
  have d61 : (m = 0 ∨ c = cd) → wX_damage_61 post (nI e) (nI c) mask (nI tn) dr (nI k) a1 a2 a3 a4 a5 a6 b7 a8 := fun hm =>
    sh_damage61 he hc hpic hm (fun b1 b7 hp => h1 hm _ ⟨tn, q, dr, b1, a2, a3, a4, a5, a6, b7, a8, htn, rfl, hp⟩)
  by_cases g : m ≠ 0
  · rw [if_pos g]
    refine br_f (sh_n5 hcd) (pk_eq cd c (fun z => d61 (Or.inr z.symm)) (fun z => ?_))
    exact h4 g (fun z' => z z'.symm) _ ⟨tn, q, dr, a1, a2, a3, a4, a5, a6, b7, a8, htn, rfl, hpic⟩
  · rw [if_neg g]
    exact br_t rfl (d61 (Or.inl (Classical.not_not.mp g)))
theorem sh_copy {post : Int32 → St2 → Prop} (he : e < 8) (hf : f < 8) (hcd : cd < 5) (h : sh_St w e f m cd b k s)
    (h4 : m ≠ 0 → ∀ s', sh_St w e f m cd b k s' → post (-4) s')
    (h0 : m = 0 → ∀ s', sh_St w e f 0 cd true k s' → post (nI 4) s') :
    wpX_copy post s (nI e) (nI f) := by
  obtain ⟨tn, q, dr, a1, a2, a3, a4, a5, a6, a7, a8, htn, rfl, hpic⟩ := h
  have hE := hpic.2.1 e he sh_Pe
  rw [sh_mxs] at hE
  have e3 : a3 (nI e).toNatClampNeg = nI 4 := by rw [sh_cl (by omega)]; exact hE.1
  unfold wpX_copy
  refine sh_bad he (br_t rfl (sh_bad hf (br_t rfl ⟨pk_in e 8 he, br_f (by rw [e3]; decide) ?_⟩)))
  refine sh_faulty he hcd hE (fun b7 hb => ?_)
  by_cases g : m ≠ 0
  · rw [if_pos g]
    exact br_f (sh_n5 hcd) (h4 g _ ⟨tn, q, dr, a1, a2, a3, a4, a5, a6, b7, a8, htn, rfl, hpic⟩)
  · rw [if_neg g]
    have g0 : m = 0 := Classical.not_not.mp g
    rw [g0] at hpic
    refine br_t rfl ⟨pk_in e 8 he, nm_r e3 ?_⟩
    refine sh_place (w := w) (old := sh_P e f b f) (p := q f) htn (sh_room hpic sh_Pef) hf hb ?_ (fun tn' p b1 b2 b3 b4 b5 b8 htn' hl => ?_)
    · by_cases o : sh_P e f b f
      · have hF := hpic.2.1 f hf o
        exact Or.inl ⟨o, hF.1, hF.2.2.1⟩
      · exact Or.inr ⟨o, hpic.1 f hf o⟩
    · have hp := sh_picPlace hf hpic hl
      rw [sh_Pt] at hp
      exact h0 g0 _ ⟨tn', sh_qu q f p, dr, b1, b2, b3, b4, b5, a6, b7, b8, htn', rfl, hp⟩
theorem sh_damaged {post : Int32 → St2 → Prop} (he : e < 8) (hcd : cd < 5) (h : sh_St w e f m cd b k s)
    (hp : ∀ s', sh_St w e f m cd b k s' → post (if m ≠ 0 then nI cd else -5) s') : wpX_damaged post s (nI e) := by
  obtain ⟨tn, q, dr, a1, a2, a3, a4, a5, a6, a7, a8, htn, rfl, hpic⟩ := h
  have hE := hpic.2.1 e he sh_Pe
  rw [sh_mxs] at hE
  have e3 : a3 (nI e).toNatClampNeg = nI 4 := by rw [sh_cl (by omega)]; exact hE.1
  unfold wpX_damaged
  refine sh_bad he (br_t rfl ⟨pk_in e 8 he, br_f (by rw [e3]; decide) ?_⟩)
  exact sh_faulty he hcd hE (fun b7 _ => hp _ ⟨tn, q, dr, a1, a2, a3, a4, a5, a6, b7, a8, htn, rfl, hpic⟩)
/-- the sum of the first n words, each by its number -/
def sh_dg (w : Nat → Int32) : Nat → Int32
  | 0 => 0
  | n + 1 => sh_dg w n + (nI n + 1) * w n
theorem sh_dg4 : sh_dg w 4 = ((w 0 + (2 * w 1)) + (3 * w 2)) + (4 * w 3) := by
  show (((0 + (nI 0 + 1) * w 0) + (nI 1 + 1) * w 1) + (nI 2 + 1) * w 2) + (nI 3 + 1) * w 3 = _
  rw [nI_1, nI_1, nI_1, nI_1]
  show (((0 + 1 * w 0) + 2 * w 1) + 3 * w 2) + 4 * w 3 = _
  rw [Int32.one_mul, Int32.zero_add]
theorem sh_digest {post : Int32 → St2 → Prop} (he : e < 8) (hcd : cd < 5) (h : sh_St w e f m cd b k s)
    (hp : ∀ s', sh_St w e f m cd b k s' → post (((w 0 + (2 * w 1)) + (3 * w 2)) + (4 * w 3)) s') : wpX_digest post s (nI e) := by
  obtain ⟨tn, q, dr, a1, a2, a3, a4, a5, a6, a7, a8, htn, rfl, hpic⟩ := h
  have hE := hpic.2.1 e he sh_Pe
  rw [sh_mxs] at hE
  have e3 : a3 (nI e).toNatClampNeg = nI 4 := by rw [sh_cl (by omega)]; exact hE.1
  unfold wpX_digest
  refine sh_bad he (br_t rfl ⟨pk_in e 8 he, br_f (by rw [e3]; decide) ?_⟩)
  refine sh_recover he hcd hE (fun b7 hb => ?_)
  have hp' := hp _ ⟨tn, q, dr, a1, a2, a3, a4, a5, a6, b7, a8, htn, rfl, hpic⟩
  rw [← sh_dg4] at hp'
  exact pk_loop (fun n i s => wX_digest_29 post (nI e) (nI tn) dr (nI k) a1 a2 a3 a4 a5 a6 b7 a8 n s (nI i)) (fun i s => s = sh_dg w i) 4 0 0 (by omega) rfl
    (fun n s h => ⟨pk_in e 8 he, pk_le 4 4 (fun _ => by rw [h]; exact hp') (fun z => absurd z (by omega)) e3⟩)
    (fun n i s hi h hw => ⟨pk_in e 8 he, pk_le 4 i (fun z => absurd z (by omega)) (fun _ => ⟨pk_in i 4 hi, nm_e (nm_r (nI_1 i) (hw _ (by rw [sh_at b7 (by omega), hb i hi, h]; rfl)))⟩) e3⟩)
/-- mendData after recover: the words at hand are w -/
theorem sh_read {post : Int32 → St2 → Prop} {i : Nat} (he : e < 8) (hcd : cd < 5) (hi : i < 4) (h : sh_St w e f m cd b k s)
    (hp : ∀ s', sh_St w e f (if cd < 4 then 0 else m) cd b (if m ≠ 0 ∧ cd < 4 then k + 1 else k) s' → post (w i) s') : wpX_read post s (nI e) (nI i) := by
  obtain ⟨tn, q, dr, a1, a2, a3, a4, a5, a6, a7, a8, htn, rfl, hpic⟩ := h
  have hE := hpic.2.1 e he sh_Pe
  have hD := hpic.2.2.1 e he sh_Pe
  rw [sh_mxs] at hE
  have e3 : a3 (nI e).toNatClampNeg = nI 4 := by rw [sh_cl (by omega)]; exact hE.1
  unfold wpX_read
  refine sh_bad he (br_t rfl (br_f (nI_pos (by omega)) ⟨pk_in e 8 he, br_t (by rw [e3]; exact nI_lt (by omega) (by omega)) ?_⟩))
  refine sh_recover he hcd hE (fun b7 hb => ?_)
  have e7 : b7 (nI i).toNatClampNeg = w i := by rw [sh_cl (by omega)]; exact hb i hi
  by_cases g : m ≠ 0 ∧ cd < 4
  · rw [if_pos g] at hp ⊢
    rw [if_pos g.2] at hp
    obtain ⟨h3, h4, h5, h1⟩ := hE
    have hq := (h5 cd hcd).2
    refine br_f (nI_pos (by omega)) ⟨sh_in5 he hcd, pk_in cd 4 g.2, sh_in60 h5 he hcd, nm_r (e' := upd a1 (q e cd) (w cd)) (by rw [sh_q5 h5 he hcd, sh_cl (by omega), hb cd g.2]) (nm_r (nI_1 k) ⟨pk_in i 4 hi, ?_⟩)⟩
    show post (b7 (nI i).toNatClampNeg) (nI tn, dr, nI (k + 1), upd a1 (q e cd) (w cd), a2, a3, a4, a5, a6, b7, a8)
    rw [e7]
    refine hp _ ⟨tn, q, dr, _, a2, a3, a4, a5, a6, b7, a8, htn, rfl, sh_picW he sh_Pe hpic (fun c hc => ?_) (fun j hj => pk_un (hj cd hcd))⟩
    rw [sh_V0]
    by_cases gc : c = cd
    · rw [gc, pk_us, sh_Wl g.2]
    · rw [pk_un (fun z => gc (hD c cd hc hcd (by rw [z]))), h1 c hc, sh_Vn gc]
  · rw [if_neg g] at hp ⊢
    refine br_t sh_neg1 ⟨pk_in i 4 hi, ?_⟩
    show post (b7 (nI i).toNatClampNeg) (nI tn, dr, nI k, a1, a2, a3, a4, a5, a6, b7, a8)
    rw [e7]
    have em : (if cd < 4 then (0 : Int32) else m) = m := by
      by_cases g4 : cd < 4
      · rw [if_pos g4]
        by_cases g0 : m = 0
        · exact g0.symm
        · exact absurd ⟨g0, g4⟩ g
      · rw [if_neg g4]
    rw [em] at hp
    exact hp _ ⟨tn, q, dr, a1, a2, a3, a4, a5, a6, b7, a8, htn, rfl, hpic⟩
/-- a read of f, all being sound -/
theorem sh_readF {post : Int32 → St2 → Prop} {i : Nat} (hf : f < 8) (hcd : cd < 5) (hi : i < 4) (h : sh_St w e f 0 cd true k s)
    (hp : ∀ s', sh_St w e f 0 cd true k s' → post (w i) s') : wpX_read post s (nI f) (nI i) := by
  obtain ⟨tn, q, dr, a1, a2, a3, a4, a5, a6, a7, a8, htn, rfl, hpic⟩ := h
  have hE := hpic.2.1 f hf sh_Pf
  rw [sh_mx0] at hE
  have e3 : a3 (nI f).toNatClampNeg = nI 4 := by rw [sh_cl (by omega)]; exact hE.1
  unfold wpX_read
  refine sh_bad hf (br_t rfl (br_f (nI_pos (by omega)) ⟨pk_in f 8 hf, br_t (by rw [e3]; exact nI_lt (by omega) (by omega)) ?_⟩))
  refine sh_recover hf hcd hE (fun b7 hb => ?_)
  have e7 : b7 (nI i).toNatClampNeg = w i := by rw [sh_cl (by omega)]; exact hb i hi
  rw [if_neg (fun g => g.1 rfl)]
  refine br_t sh_neg1 ⟨pk_in i 4 hi, ?_⟩
  show post (b7 (nI i).toNatClampNeg) (nI tn, dr, nI k, a1, a2, a3, a4, a5, a6, b7, a8)
  rw [e7]
  exact hp _ ⟨tn, q, dr, a1, a2, a3, a4, a5, a6, b7, a8, htn, rfl, hpic⟩
theorem sh_healed {post : Int32 → Prop} (h : sh_St w e f m cd b k s) (hp : post (nI k)) : wpX_healed post s := by
  obtain ⟨tn, q, dr, a1, a2, a3, a4, a5, a6, a7, a8, htn, rfl, hpic⟩ := h
  exact hp
/-! drafts and put -/
theorem sh_draft {post : Int32 → St2 → Prop} {n : Nat} {p : Int32} (hn : n < 4) (hp : post (nI (n + 1)) (t, nI (n + 1), mn, a1, a2, a3, a4, a5, upd a6 n p, a7, a8)) : wpX_draft post (t, nI n, mn, a1, a2, a3, a4, a5, a6, a7, a8) p :=
  pk_eq n 4 (fun z => absurd z (by omega)) (fun _ => ⟨pk_in n 4 hn, nm_r (e' := upd a6 n p) (by rw [sh_cl (by omega)]) (nm_r (nI_1 n) hp)⟩)
theorem sh_draft4 {post : Int32 → St2 → Prop} {p : Int32} (hp : post (-2) (t, nI 4, mn, a1, a2, a3, a4, a5, a6, a7, a8)) : wpX_draft post (t, nI 4, mn, a1, a2, a3, a4, a5, a6, a7, a8) p :=
  br_t rfl hp
/-- nothing is there yet -/
theorem sh_pic0 (h3 : ∀ x, a3 x = 0) (h2 : ∀ j, a2 j = 0) : sh_Pic w 0 cd e (fun _ => False) (fun _ _ => 0) a1 a2 a3 a4 a5 :=
  ⟨fun x _ _ => h3 x, fun x _ z => z.elim, fun x _ z => z.elim, fun x _ z => z.elim, fun j _ z => absurd (h2 j) z, fun x y _ _ z => z.elim⟩
theorem sh_P0 : (fun y => y = e ∨ (fun _ => False : Nat → Prop) y) = sh_P e f false := by
  funext y
  apply propext
  unfold sh_P
  constructor
  · intro k
    rcases k with k | k
    · exact Or.inl k
    · exact k.elim
  · intro k
    rcases k with k | ⟨k, _⟩
    · exact Or.inl k
    · exact absurd k (by decide)
theorem sh_put {post : Int32 → St2 → Prop} (he : e < 8) (h3 : ∀ x, a3 x = 0) (h2 : ∀ j, a2 j = 0) (h6 : ∀ j, j < 4 → a6 j = w j)
    (hp : ∀ s', sh_St w e f 0 cd false 0 s' → post (nI 4) s') : wpX_put post (0, nI 4, 0, a1, a2, a3, a4, a5, a6, a7, a8) (nI e) := by
  unfold wpX_put
  refine sh_bad he (br_t rfl (br_f (by decide) ?_))
  refine pk_loop (fun n i s => wX_put_22 post (nI e) 0 (nI 4) 0 n (nI i) a1 a2 a3 a4 a5 a6 s a8) (fun i s => ∀ j, j < i → s j = w j) 4 0 a7 (by omega) (fun j hj => absurd hj (by omega)) ?_ ?_
  · intro n s h
    refine pk_le 4 4 (fun _ => ?_) (fun z => absurd z (by omega))
    have hpic : sh_Pic w 0 cd e (fun _ => False) (fun _ _ => 0) a1 a2 a3 a4 a5 := sh_pic0 h3 h2
    refine sh_place (w := w) (tn := 0) (old := False) (p := fun _ => 0) (by omega) (sh_room (f := e) hpic (fun x z => z.elim)) he h (Or.inr ⟨fun z => z, h3 e⟩) (fun tn' p b1 b2 b3 b4 b5 b8 htn' hl => ?_)
    have hp2 := sh_picPlace he hpic hl
    rw [sh_P0 (f := f)] at hp2
    exact hp _ ⟨tn', _, 0, b1, b2, b3, b4, b5, a6, s, b8, htn', rfl, hp2⟩
  · intro n i s hi h hw
    refine pk_le 4 i (fun z => absurd z (by omega)) (fun _ => ⟨pk_in i 4 hi, pk_in i 4 hi, nm_e (nm_r (nI_1 i) (hw _ (sh_fill (f := w) (sh_cl (by omega)) h ?_)))⟩)
    rw [sh_cl (by omega)]
    exact h6 i hi
end
end
section
section
variable {t dr mn : Int32} {a1 a2 a3 a4 a5 a6 a7 a8 : Nat → Int32} {w : Nat → Int32} {m : Int32} {cd e f k : Nat} {b : Bool} {s : St2}
def sh_fl (m : Int32) (e i : Nat) : Int32 := if e < i ∧ m ≠ 0 then 1 else 0
theorem sh_fl1 {i : Nat} (h : e < i) (hm : m ≠ 0) : sh_fl m e i = 1 := if_pos ⟨h, hm⟩
theorem sh_fl0 {i : Nat} (h : ¬ (e < i ∧ m ≠ 0)) : sh_fl m e i = 0 := if_neg h
theorem sh_anyDamaged {post : Int32 → St2 → Prop} {q : Nat → Nat → Nat} (he : e < 8) (hcd : cd < 5) (h : sh_Pic w m cd e (sh_P e f b) q a1 a2 a3 a4 a5)
    (hp : ∀ b7 : Nat → Int32, post (if m ≠ 0 then 1 else 0) (t, dr, mn, a1, a2, a3, a4, a5, a6, b7, a8)) : wpX_anyDamaged post (t, dr, mn, a1, a2, a3, a4, a5, a6, a7, a8) := by
  refine pk_loop (σ := Int32 × (Nat → Int32)) (fun n i s => wX_anyDamaged_4 post n s.1 (nI i) t dr mn a1 a2 a3 a4 a5 a6 s.2 a8) (fun i s => s.1 = sh_fl m e i) 8 0 (0, a7) (by omega) (sh_fl0 (fun z => absurd z.1 (by omega))).symm ?_ ?_
  · intro n s hs
    refine pk_le 8 8 (fun _ => ?_) (fun z => absurd z (by omega))
    rw [hs]
    have hp' := hp s.2
    by_cases g : m ≠ 0
    · rw [sh_fl1 he g]
      rw [if_pos g] at hp'
      exact ⟨rfl, hp'⟩
    · rw [sh_fl0 (fun z => g z.2)]
      rw [if_neg g] at hp'
      exact ⟨rfl, hp'⟩
  · intro n i s hi hs hw
    refine pk_le 8 i (fun z => absurd z (by omega)) (fun _ => ⟨pk_in i 8 hi, ?_⟩)
    have ei : a3 (nI i).toNatClampNeg = a3 i := by rw [sh_cl (by omega)]
    by_cases hP : sh_P e f b i
    · have hE := h.2.1 i hi hP
      refine br_f (by rw [ei, hE.1]; decide) ?_
      refine sh_faulty hi hcd hE (fun b7 _ => ?_)
      by_cases g : e < i ∧ m ≠ 0
      · rw [sh_fl1 g.1 g.2] at hs
        exact br_f (by rw [hs]; decide) (nm_r (nI_1 i) (hw (1, b7) (sh_fl1 (by omega) g.2).symm))
      · rw [sh_fl0 g] at hs
        refine br_t hs ?_
        by_cases gm : sh_mx m e i ≠ 0
        · rw [if_pos gm]
          have gi : i = e := Classical.byContradiction (fun z => gm (sh_mxn z))
          rw [gi, sh_mxs] at gm
          exact br_f (sh_n5 hcd) (nm_r (nI_1 i) (hw (1, b7) (sh_fl1 (by omega) gm).symm))
        · rw [if_neg gm]
          refine br_t rfl (nm_r (nI_1 i) (hw (0, b7) (sh_fl0 (fun z => ?_)).symm))
          by_cases gi : i = e
          · rw [gi, sh_mxs] at gm
            exact gm z.2
          · exact g ⟨by omega, z.2⟩
    · refine br_t (by rw [ei, h.1 i hi hP]; decide) (nm_r (nI_1 i) (hw s ?_))
      have gi : i ≠ e := fun z => hP (Or.inl z)
      rw [hs]
      by_cases g : e < i ∧ m ≠ 0
      · rw [sh_fl1 g.1 g.2, sh_fl1 (by omega) g.2]
      · rw [sh_fl0 g, sh_fl0 (fun z => g ⟨by omega, z.2⟩)]
theorem sh_m12 (d : Nat) : nI d * 12 = nI (d * 12) := pk_mul d 12
theorem sh_m12s (d : Nat) : (nI d * 12) + 12 = nI (d * 12 + 12) := by
  rw [sh_m12]
  exact nI_add (d * 12) 12
theorem sh_resupply {post : St2 → Prop} {x d : Nat} {q : Nat → Nat} (hx : x < 8) (hd : d < 5) (h3 : a3 x = nI 4) (h5 : sh_Cells x q a5) (hD : ∀ c c', c < 5 → c' < 5 → q c / 12 = q c' / 12 → c = c')
    (h1 : ∀ c, c < 5 → q c / 12 ≠ d → a1 (q c) = sh_W w c)
    (hp : ∀ b1 : Nat → Int32, (∀ c, c < 5 → b1 (q c) = sh_W w c) → (∀ j, (∀ c, c < 5 → j ≠ q c) → b1 j = a1 j) → post (t, dr, mn, b1, a2, a3, a4, a5, a6, a7, a8)) : wpX_resupply post (t, dr, mn, a1, a2, a3, a4, a5, a6, a7, a8) (nI x) (nI d) := by
  have e3 : a3 (nI x).toNatClampNeg = nI 4 := by rw [sh_cl (by omega)]; exact h3
  refine pk_loop (fun n i s => wX_resupply_2 post (nI x) (nI d) t dr mn n (nI i) s a2 a3 a4 a5 a6 a7 a8) (fun i s => (∀ c, c < 5 → (c < i ∨ q c / 12 ≠ d) → s (q c) = sh_W w c) ∧ (∀ j, (∀ c, c < 5 → j ≠ q c) → s j = a1 j)) 5 0 a1 (by omega) ⟨fun c hc hz => hz.elim (fun z => absurd z (by omega)) (h1 c hc), fun j _ => rfl⟩ ?_ ?_
  · intro n s h
    exact ⟨pk_in x 8 hx, pk_lt 4 5 (fun _ => hp s (fun c hc => h.1 c hc (Or.inl hc)) h.2) (fun z => absurd z (by omega)) e3⟩
  · intro n i s hi h hw
    have hq := (h5 i hi).2
    refine ⟨pk_in x 8 hx, pk_lt 4 i (fun z => absurd z (by omega)) (fun _ => ⟨sh_in5 hx hi, nm_r (sh_c5 h5 hx hi) ?_⟩) e3⟩
    have skip : q i / 12 ≠ d → ∀ c, c < 5 → (c < i + 1 ∨ q c / 12 ≠ d) → s (q c) = sh_W w c := by
      intro hn c hc hz
      by_cases g : c = i
      · rw [g]
        exact h.1 i hi (Or.inr hn)
      · exact h.1 c hc (hz.elim (fun z => Or.inl (by omega)) Or.inr)
    refine pk_lt (q i) (d * 12) (fun z => nm_r (nI_1 i) (hw s ⟨skip (by omega), h.2⟩)) (fun z => pk_le (d * 12 + 12) (q i) (fun z2 => nm_r (nI_1 i) (hw s ⟨skip (by omega), h.2⟩)) (fun z2 => ?_) (sh_m12s d)) rfl (sh_m12 d)
    have hqd : q i / 12 = d := by omega
    refine sh_rebuilt hx hi h3 h5 ?_
    have rb : sh_rb (fun c => s (q c)) i 5 = sh_W w i := sh_rbW hi (fun c hc hn => h.1 c hc (Or.inr (fun z => hn (hD c i hc hi (by rw [z, hqd])))))
    refine ⟨pk_in (q i) 60 hq, nm_r (e' := upd s (q i) (sh_W w i)) (by rw [sh_cl hq, rb]) (nm_r (nI_1 i) (hw _ ⟨fun c hc hz => ?_, fun j hj => ?_⟩))⟩
    · by_cases g : c = i
      · rw [g, pk_us]
      · rw [pk_un (fun z => g (hD c i hc hi (by rw [z])))]
        exact h.1 c hc (hz.elim (fun z => Or.inl (by omega)) Or.inr)
    · rw [pk_un (hj i hi)]
      exact h.2 j hj
theorem sh_lose53 {post : Int32 → St2 → Prop} {q : Nat → Nat → Nat} {d : Nat} {P : Nat → Prop} {o1 : Nat → Int32} (hd : d < 5) (h : sh_Pic w 0 cd e P q o1 a2 a3 a4 a5) (h1 : ∀ j, j / 12 ≠ d → a1 j = o1 j)
    (hp : ∀ b1 : Nat → Int32, sh_Pic w 0 cd e P q b1 a2 a3 a4 a5 → post 0 (t, dr, mn, b1, a2, a3, a4, a5, a6, a7, a8)) : ∃ n, wX_lose_53 post (nI d) n 0 t dr mn a1 a2 a3 a4 a5 a6 a7 a8 := by
  obtain ⟨hA, hB, hD, hT, hU, hN⟩ := h
  refine pk_loop (fun n i s => wX_lose_53 post (nI d) n (nI i) t dr mn s a2 a3 a4 a5 a6 a7 a8) (fun i s => ∀ x, x < 8 → P x → ∀ c, c < 5 → (x < i ∨ q x c / 12 ≠ d) → s (q x c) = sh_W w c) 8 0 a1 (by omega) ?_ ?_ ?_
  · intro x hx hP c hc hz
    have hz' : q x c / 12 ≠ d := hz.elim (fun z => absurd z (by omega)) id
    have hE := (hB x hx hP).2.2.2 c hc
    rw [sh_mx0, sh_V0] at hE
    rw [h1 _ hz']
    exact hE
  · intro n s hs
    refine pk_le 8 8 (fun _ => hp s ⟨hA, fun x hx hP => ?_, hD, hT, hU, hN⟩) (fun z => absurd z (by omega))
    obtain ⟨k3, k4, k5, _⟩ := hB x hx hP
    refine ⟨k3, k4, k5, fun c hc => ?_⟩
    rw [sh_mx0, sh_V0]
    exact hs x hx hP c hc (Or.inl hx)
  · intro n i s hi hs hw
    refine pk_le 8 i (fun z => absurd z (by omega)) (fun _ => ⟨pk_in i 8 hi, ?_⟩)
    have ei : a3 (nI i).toNatClampNeg = a3 i := by rw [sh_cl (by omega)]
    by_cases hP : P i
    · obtain ⟨k3, k4, k5, _⟩ := hB i hi hP
      refine br_f (by rw [ei, k3]; decide) ?_
      refine sh_resupply (w := w) hi hd k3 k5 (hD i hi hP) (fun c hc hz => hs i hi hP c hc (Or.inr hz)) (fun b1 r1 r2 => nm_r (nI_1 i) (hw b1 (fun x hx hPx c hc hz => ?_)))
      by_cases g : x = i
      · rw [g]
        exact r1 c hc
      · rw [r2 _ (fun c' hc' => hN x i hx hi hPx hP g c c' hc hc')]
        exact hs x hx hPx c hc (hz.elim (fun z => Or.inl (by omega)) Or.inr)
    · refine br_t (by rw [ei, hA i hi hP]; decide) (nm_r (nI_1 i) (hw s (fun x hx hPx c hc hz => ?_)))
      have g : x ≠ i := fun z => hP (z ▸ hPx)
      exact hs x hx hPx c hc (hz.elim (fun z => Or.inl (by omega)) Or.inr)
theorem sh_lose {post : Int32 → St2 → Prop} {d : Nat} (he : e < 8) (hcd : cd < 5) (hd : d < 5) (h : sh_St w e f m cd b k s)
    (h4 : m ≠ 0 → ∀ s', sh_St w e f m cd b k s' → post (-4) s')
    (h0 : m = 0 → ∀ s', sh_St w e f 0 cd b k s' → post 0 s') : wpX_lose post s (nI d) := by
  obtain ⟨tn, q, dr, a1, a2, a3, a4, a5, a6, a7, a8, htn, rfl, hpic⟩ := h
  refine br_f (nI_pos (by omega)) (br_t (nI_lt (b := 5) hd (by decide)) ?_)
  refine sh_anyDamaged he hcd hpic (fun b7 => ?_)
  by_cases g : m ≠ 0
  · rw [if_pos g]
    exact br_f (by decide) (h4 g _ ⟨tn, q, dr, a1, a2, a3, a4, a5, a6, b7, a8, htn, rfl, hpic⟩)
  · rw [if_neg g]
    have g0 : m = 0 := Classical.not_not.mp g
    rw [g0] at hpic
    refine br_t rfl ?_
    refine pk_loop (fun n i s => wX_lose_25 post (nI d) (nI tn) dr (nI k) n (nI i) s a2 a3 a4 a5 a6 b7 a8) (fun _ s => ∀ j, j / 12 ≠ d → s j = a1 j) 12 0 a1 (by omega) (fun j _ => rfl) ?_ ?_
    · intro n s hs
      exact pk_le 12 12 (fun _ => sh_lose53 hd hpic hs (fun b1 hp => h0 g0 _ ⟨tn, q, dr, b1, a2, a3, a4, a5, a6, b7, a8, htn, rfl, hp⟩)) (fun z => absurd z (by omega))
    · intro n i s hi hs hw
      refine pk_le 12 i (fun z => absurd z (by omega)) (fun _ => ⟨sh_in12 hd hi, nm_e (nm_r (nI_1 i) (hw _ (fun j hj => ?_)))⟩)
      rw [sh_cl12 hd hi, pk_un (by omega)]
      exact hs j hj
theorem sh_scrubOne {post : St2 → Prop} {x : Nat} {q : Nat → Nat} (hx : x < 8) (hcd : cd < 5) (h : sh_Ext w m cd x q a1 a3 a4 a5) (hD : ∀ c c', c < 5 → c' < 5 → q c / 12 = q c' / 12 → c = c')
    (h1 : m ≠ 0 → ∀ b1 b7 : Nat → Int32, (∀ c, c < 5 → b1 (q c) = sh_W w c) → (∀ j, (∀ c, c < 5 → j ≠ q c) → b1 j = a1 j) → post (t, dr, nI (k + 1), b1, a2, a3, a4, a5, a6, b7, a8))
    (h0 : m = 0 → ∀ b7 : Nat → Int32, post (t, dr, nI k, a1, a2, a3, a4, a5, a6, b7, a8)) : wpX_scrubOne post (t, dr, nI k, a1, a2, a3, a4, a5, a6, a7, a8) (nI x) := by
  have hE := h
  obtain ⟨k3, k4, k5, k1⟩ := h
  have e3 : a3 (nI x).toNatClampNeg = nI 4 := by rw [sh_cl (by omega)]; exact k3
  unfold wpX_scrubOne
  refine sh_faulty hx hcd hE (fun b7 hb => ⟨pk_in x 8 hx, ?_⟩)
  have fin : m ≠ 0 → post (t, dr, nI (k + 1), upd a1 (q cd) (sh_W w cd), a2, a3, a4, a5, a6, b7, a8) := by
    intro g
    refine h1 g _ b7 (fun c hc => ?_) (fun j hj => pk_un (hj cd hcd))
    by_cases gc : c = cd
    · rw [gc, pk_us]
    · rw [pk_un (fun z => gc (hD c cd hc hcd (by rw [z]))), k1 c hc, sh_Vn gc]
  by_cases g : m ≠ 0
  · rw [if_pos g]
    refine pk_eq cd 4 (fun z => ?_) (fun z => ?_) rfl e3
    · refine ⟨sh_in5 hx hcd, sh_rebuilt hx hcd k3 k5 ⟨sh_in60 k5 hx hcd, nm_r (e' := upd a1 (q cd) (sh_W w cd)) ?_ (nm_r (nI_1 k) (fin g))⟩⟩
      rw [sh_q5 k5 hx hcd, sh_rbV hcd hcd k1, sh_Vs, sh_xc]
    · refine br_f (nI_pos (by omega)) ⟨sh_in5 hx hcd, pk_in cd 4 (by omega), sh_in60 k5 hx hcd, nm_r (e' := upd a1 (q cd) (sh_W w cd)) ?_ (nm_r (nI_1 k) (fin g))⟩
      rw [sh_q5 k5 hx hcd, sh_cl (by omega), hb cd (by omega), sh_Wl (by omega)]
  · rw [if_neg g]
    refine br_f (by rw [e3]; decide) ?_
    exact br_t (by decide) (h0 (Classical.not_not.mp g) b7)
theorem sh_scrub {post : Int32 → St2 → Prop} (he : e < 8) (hcd : cd < 5) (h : sh_St w e f m cd b k s)
    (hp : ∀ r s', sh_St w e f 0 cd b (if m ≠ 0 then k + 1 else k) s' → post r s') : wpX_scrub post s := by
  obtain ⟨tn, q, dr, a1, a2, a3, a4, a5, a6, a7, a8, htn, rfl, hpic⟩ := h
  refine pk_loop (σ := Nat × (Nat → Int32) × (Nat → Int32)) (fun n i s => wX_scrub_7 post (nI k) n (nI i) (nI tn) dr (nI s.1) s.2.1 a2 a3 a4 a5 a6 s.2.2 a8) (fun i s => sh_Pic w (if e < i then 0 else m) cd e (sh_P e f b) q s.2.1 a2 a3 a4 a5 ∧ s.1 = if e < i ∧ m ≠ 0 then k + 1 else k) 8 0 (k, a1, a7) (by omega) ⟨?_, ?_⟩ ?_ ?_
  · rw [if_neg (by omega)]
    exact hpic
  · exact (if_neg (fun z => absurd z.1 (by omega))).symm
  · intro n s hs
    refine pk_le 8 8 (fun _ => ?_) (fun z => absurd z (by omega))
    obtain ⟨p1, p2⟩ := hs
    rw [if_pos he] at p1
    have p3 : s.1 = if m ≠ 0 then k + 1 else k := by
      rw [p2]
      by_cases g : m ≠ 0
      · rw [if_pos ⟨he, g⟩, if_pos g]
      · rw [if_neg (fun z => g z.2), if_neg g]
    rw [p3]
    exact hp _ _ ⟨tn, q, dr, s.2.1, a2, a3, a4, a5, a6, s.2.2, a8, htn, rfl, p1⟩
  · intro n i s hi hs hw
    obtain ⟨p1, p2⟩ := hs
    refine pk_le 8 i (fun z => absurd z (by omega)) (fun _ => ⟨pk_in i 8 hi, ?_⟩)
    have ei : a3 (nI i).toNatClampNeg = a3 i := by rw [sh_cl (by omega)]
    have same : i ≠ e → sh_Pic w (if e < i + 1 then 0 else m) cd e (sh_P e f b) q s.2.1 a2 a3 a4 a5 ∧ s.1 = if e < i + 1 ∧ m ≠ 0 then k + 1 else k := by
      intro gi
      have q1 : (e < i + 1) = (e < i) := propext ⟨fun z => by omega, fun z => by omega⟩
      simp only [q1]
      exact ⟨p1, p2⟩
    by_cases hP : sh_P e f b i
    · have hE := p1.2.1 i hi hP
      refine br_f (by rw [ei, hE.1]; decide) ?_
      by_cases gi : i = e
      · rw [if_neg (by omega)] at p1
        rw [if_neg (fun z => absurd z.1 (by omega))] at p2
        rw [if_neg (by omega)] at hE
        rw [gi, sh_mxs] at hE
        have hlt : e < i + 1 := by omega
        rw [p2]
        refine sh_scrubOne (w := w) (m := m) (cd := cd) (q := q i) hi hcd (by rw [gi]; exact hE) (p1.2.2.1 i hi hP) (fun g b1 b7 r1 r2 => ?_) (fun g b7 => ?_)
        · refine nm_r (nI_1 i) (hw (k + 1, b1, b7) ⟨?_, ?_⟩)
          · rw [if_pos hlt]
            exact sh_picW he sh_Pe p1 (fun c hc => by rw [sh_V0, ← gi]; exact r1 c hc) (fun j hj => r2 j (by rw [gi]; exact hj))
          · exact (if_pos ⟨hlt, g⟩).symm
        · refine nm_r (nI_1 i) (hw (k, s.2.1, b7) ⟨?_, ?_⟩)
          · rw [if_pos hlt]
            rw [g] at p1
            exact p1
          · exact (if_neg (fun z => z.2 g)).symm
      · rw [sh_mxn gi] at hE
        refine sh_scrubOne (w := w) (m := 0) (cd := cd) (q := q i) hi hcd hE (p1.2.2.1 i hi hP) (fun g => absurd rfl g) (fun _ b7 => nm_r (nI_1 i) (hw (s.1, s.2.1, b7) (same gi)))
    · exact br_t (by rw [ei, p1.1 i hi hP]; decide) (nm_r (nI_1 i) (hw s (same (fun z => hP (Or.inl z)))))
end
end
section
section
variable {t dr mn : Int32} {a1 a2 a3 a4 a5 a6 a7 a8 : Nat → Int32} {w : Nat → Int32} {m : Int32} {cd e f k i d : Nat} {b : Bool}
variable {post : Int32 → St0 → Prop} {mc ms kc ks : Nat} {x8 x9 x10 x11 x12 x13 x14 x15 x16 x17 x18 x19 x20 x21 x22 x23 x24 x26 z : Int32}
/-- a read that mends nothing -/
theorem sh_readS {pst : Int32 → St2 → Prop} {s : St2} (he : e < 8) (hcd : cd < 5) (hi : i < 4) (hn : ¬ (m ≠ 0 ∧ cd < 4)) (h : sh_St w e f m cd b k s)
    (hp : ∀ s', sh_St w e f m cd b k s' → pst (w i) s') : wpX_read pst s (nI e) (nI i) := by
  refine sh_read he hcd hi h (fun s' hs => hp s' ?_)
  rw [if_neg hn] at hs
  have em : (if cd < 4 then (0 : Int32) else m) = m := by
    by_cases g4 : cd < 4
    · rw [if_pos g4]
      by_cases g0 : m = 0
      · exact g0.symm
      · exact absurd ⟨g0, g4⟩ hn
    · rw [if_neg g4]
  rw [em] at hs
  exact hs
theorem sh_511 (hp : post 1 ()) (hf : f < 8) (hcd : cd < 5) (hi : i < 4) (hk : (x16 = 0 ∧ k = 0) ∨ (¬ x16 = 0 ∧ k = 1)) (h : sh_St w e f 0 cd true k (t, dr, mn, a1, a2, a3, a4, a5, a6, a7, a8)) :
    wL_lawOf_511 post mc ms (nI f) (nI i) x16 (w i) (nI 4) 0 z z kc ks t dr mn a1 a2 a3 a4 a5 a6 a7 a8 := by
  refine br_t rfl (br_t rfl (br_t rfl (sh_readF hf hcd hi h (fun s' hs => ?_))))
  obtain ⟨t', d', n', b1, b2, b3, b4, b5, b6, b7, b8⟩ := s'
  refine br_t rfl (sh_healed hs ?_)
  rcases hk with ⟨h1, h2⟩ | ⟨h1, h2⟩
  · exact br_t h1 (br_t (by rw [h2]; rfl) hp)
  · exact br_f h1 (br_t (by rw [h2]; rfl) hp)
theorem sh_378A (hp : post 1 ()) (hf : f < 8) (hcd : cd < 5) (hi : i < 4) (h : sh_St w e f 0 cd true 0 (t, dr, mn, a1, a2, a3, a4, a5, a6, a7, a8)) :
    wL_lawOf_378 post mc ms (w 0) (w 1) (w 2) (w 3) (nI f) x9 (nI i) 0 1 (nI 4) 0 (((w 0 + (2 * w 1)) + (3 * w 2)) + (4 * w 3)) (-5) (w i) (w i) (-5) (nI 0) (nI 4) 0 0 0 kc ks t dr mn a1 a2 a3 a4 a5 a6 a7 a8 := by
  refine br_t rfl (br_t rfl (br_t rfl (br_t rfl (br_t rfl (br_t rfl (br_t rfl (br_t rfl (br_t rfl (br_t rfl (br_t rfl (br_t rfl (br_t rfl (br_t rfl ?_)))))))))))))
  exact sh_511 (z := 0) hp hf hcd hi (Or.inl ⟨rfl, rfl⟩) h
theorem sh_10 : ¬ (1 : Int32) = 0 := by decide
theorem sh_378B3 (hp : post 1 ()) (hf : f < 8) (hcd : cd < 4) (hi : i < 4) (h : sh_St w e f 0 cd true 1 (t, dr, mn, a1, a2, a3, a4, a5, a6, a7, a8)) :
    wL_lawOf_378 post mc ms (w 0) (w 1) (w 2) (w 3) (nI f) (nI cd) (nI i) 1 (-4) (-4) (-4) (((w 0 + (2 * w 1)) + (3 * w 2)) + (4 * w 3)) (nI cd) (w i) (w i) (-5) (nI 1) (nI 4) 0 1 1 kc ks t dr mn a1 a2 a3 a4 a5 a6 a7 a8 := by
  refine br_t rfl (br_f sh_10 (br_t rfl (br_f sh_10 (br_t rfl (br_f sh_10 (br_t rfl (br_t rfl (br_f sh_10 (br_t rfl (br_t rfl (br_f sh_10 (pk_eq cd 4 (fun z => absurd z (by omega)) (fun _ => br_t rfl (br_f sh_10 (pk_le 4 cd (fun z => absurd z (by omega)) (fun _ => ?_))))))))))))))))
  exact sh_511 (z := 1) hp hf (by omega) hi (Or.inr ⟨sh_10, rfl⟩) h
theorem sh_378B4 (hp : post 1 ()) (hf : f < 8) (hi : i < 4) (h : sh_St w e f 0 4 true 1 (t, dr, mn, a1, a2, a3, a4, a5, a6, a7, a8)) :
    wL_lawOf_378 post mc ms (w 0) (w 1) (w 2) (w 3) (nI f) (nI 4) (nI i) 1 (-4) (-4) (-4) (((w 0 + (2 * w 1)) + (3 * w 2)) + (4 * w 3)) (nI 4) (w i) (w i) (nI 4) (nI 0) (nI 4) 0 1 1 kc ks t dr mn a1 a2 a3 a4 a5 a6 a7 a8 := by
  refine br_t rfl (br_f sh_10 (br_t rfl (br_f sh_10 (br_t rfl (br_f sh_10 (br_t rfl (br_t rfl (br_f sh_10 (br_t rfl (br_t rfl (br_f sh_10 (pk_eq 4 4 (fun _ => br_t rfl (br_f sh_10 (pk_le 4 4 (fun _ => ?_) (fun z => absurd z (by omega))))) (fun z => absurd rfl z)))))))))))))
  exact sh_511 (z := 0) hp hf (by omega) hi (Or.inr ⟨sh_10, rfl⟩) h
theorem sh_307 (he : e < 8) (hf : f < 8) (hcd : cd < 5) (hd : d < 5) (h : sh_St w e f m cd b k (t, dr, mn, a1, a2, a3, a4, a5, a6, a7, a8))
    (H : ∀ (t' d' n' : Int32) (b1 b2 b3 b4 b5 b6 b7 b8 : Nat → Int32), sh_St w e f 0 cd true (if m ≠ 0 then k + 1 else k) (t', d', n', b1, b2, b3, b4, b5, b6, b7, b8) →
      (x16 = 0 → wL_lawOf_378 post mc ms (w 0) (w 1) (w 2) (w 3) (nI f) x9 x10 x16 x17 x18 x19 x20 x21 x22 x23 x24 (nI k) (nI 4) 0 0 x15 kc ks t' d' n' b1 b2 b3 b4 b5 b6 b7 b8) ∧
      (¬ x16 = 0 → wL_lawOf_378 post mc ms (w 0) (w 1) (w 2) (w 3) (nI f) x9 x10 x16 x17 x18 x19 x20 x21 x22 x23 x24 (nI k) (nI 4) 0 1 x15 kc ks t' d' n' b1 b2 b3 b4 b5 b6 b7 b8)) :
    wL_lawOf_307 post mc ms (w 0) (w 1) (w 2) (w 3) (nI e) (nI f) x9 x10 (nI d) (nI 4) (-2) (nI 4) x15 x16 x17 x18 x19 x20 x21 x22 x23 x24 1 kc ks t dr mn a1 a2 a3 a4 a5 a6 a7 a8 := by
  unfold wL_lawOf_307
  refine sh_healed h ?_
  refine sh_scrub he hcd h (fun r s1 hs1 => ?_)
  obtain ⟨t1, d1, n1, c1, c2, c3, c4, c5, c6, c7, c8⟩ := s1
  refine sh_copy he hf hcd hs1 (fun z => absurd rfl z) (fun _ s2 hs2 => ?_)
  obtain ⟨t2, d2, n2, e1, e2, e3, e4, e5, e6, e7, e8⟩ := s2
  refine sh_lose he hcd hd hs2 (fun z => absurd rfl z) (fun _ s3 hs3 => ?_)
  obtain ⟨t3, d3, n3, f1, f2, f3, f4, f5, f6, f7, f8⟩ := s3
  exact br_f sh_10 (br_t rfl (br_t rfl (br_t rfl (H t3 d3 n3 f1 f2 f3 f4 f5 f6 f7 f8 hs3))))
theorem sh_232 (he : e < 8) (hcd : cd < 5) (hi : i < 4) (h : sh_St w e f m cd b k (t, dr, mn, a1, a2, a3, a4, a5, a6, a7, a8))
    (H : ∀ (t' d' n' : Int32) (b1 b2 b3 b4 b5 b6 b7 b8 : Nat → Int32), sh_St w e f (if cd < 4 then 0 else m) cd b (if m ≠ 0 ∧ cd < 4 then k + 1 else k) (t', d', n', b1, b2, b3, b4, b5, b6, b7, b8) →
      wL_lawOf_307 post mc ms (w 0) (w 1) (w 2) (w 3) (nI e) x8 x9 (nI i) x11 x12 x13 x14 x15 x16 x17 x18 x19 x20 x21 x22 (w i) (if (if cd < 4 then 0 else m) ≠ 0 then nI cd else -5) 1 kc ks t' d' n' b1 b2 b3 b4 b5 b6 b7 b8) :
    wL_lawOf_232 post mc ms (w 0) (w 1) (w 2) (w 3) (nI e) x8 x9 (nI i) x11 x12 x13 x14 x15 x16 x17 x18 x19 x20 x21 x22 kc ks t dr mn a1 a2 a3 a4 a5 a6 a7 a8 := by
  unfold wL_lawOf_232
  have hn : ¬ ((if cd < 4 then 0 else m) ≠ 0 ∧ cd < 4) := by
    intro g
    rw [if_pos g.2] at g
    exact g.1 rfl
  refine sh_read he hcd hi h (fun s1 hs1 => ?_)
  obtain ⟨t1, d1, n1, c1, c2, c3, c4, c5, c6, c7, c8⟩ := s1
  refine sh_damaged he hcd hs1 (fun s2 hs2 => ?_)
  obtain ⟨t2, d2, n2, e1, e2, e3, e4, e5, e6, e7, e8⟩ := s2
  refine sh_readS (i := 0) he hcd (by omega) hn hs2 (fun s3 hs3 => ?_)
  obtain ⟨t3, d3, n3, f1, f2, f3, f4, f5, f6, f7, f8⟩ := s3
  refine br_t rfl (sh_readS (i := 1) he hcd (by omega) hn hs3 (fun s4 hs4 => ?_))
  obtain ⟨t4, d4, n4, g1, g2, g3, g4, g5, g6, g7, g8⟩ := s4
  refine br_t rfl (sh_readS (i := 2) he hcd (by omega) hn hs4 (fun s5 hs5 => ?_))
  obtain ⟨t5, d5, n5, h1, h2, h3, h4, h5, h6, h7, h8⟩ := s5
  refine br_t rfl (sh_readS (i := 3) he hcd (by omega) hn hs5 (fun s6 hs6 => ?_))
  obtain ⟨t6, d6, n6, i1, i2, i3, i4, i5, i6, i7, i8⟩ := s6
  exact br_t rfl (H t6 d6 n6 i1 i2 i3 i4 i5 i6 i7 i8 hs6)
theorem sh_due {Q : Int32 → Prop} (hi : i < 4) (H : Q (w i)) : (nI i = 0 → Q (w 0)) ∧ (¬ nI i = 0 → ((nI i = 1 → Q (w 1)) ∧ (¬ nI i = 1 → ((nI i = 2 → Q (w 2)) ∧ (¬ nI i = 2 → Q (w 3)))))) := by
  have hi' : i = 0 ∨ i = 1 ∨ i = 2 ∨ i = 3 := by omega
  rcases hi' with g | g | g | g <;> subst g
  · exact br_t rfl H
  · exact br_f (by decide) (br_t rfl H)
  · exact br_f (by decide) (br_f (by decide) (br_t rfl H))
  · exact br_f (by decide) (br_f (by decide) (br_f (by decide) H))
/-- no damage was done -/
theorem sh_164A (hp : post 1 ()) (he : e < 8) (hf : f < 8) (hcd : cd < 5) (hi : i < 4) (hd : d < 5) (h : sh_St w e f 0 cd b 0 (t, dr, mn, a1, a2, a3, a4, a5, a6, a7, a8)) :
    wL_lawOf_164 post mc ms (w 0) (w 1) (w 2) (w 3) (nI e) (nI f) x9 (nI i) (nI d) (nI 4) (-2) (nI 4) 0 0 1 kc ks t dr mn a1 a2 a3 a4 a5 a6 a7 a8 := by
  unfold wL_lawOf_164
  refine sh_copy he hf hcd h (fun z => absurd rfl z) (fun _ s1 hs1 => ?_)
  obtain ⟨t1, d1, n1, c1, c2, c3, c4, c5, c6, c7, c8⟩ := s1
  refine sh_lose he hcd hd hs1 (fun z => absurd rfl z) (fun _ s2 hs2 => ?_)
  obtain ⟨t2, d2, n2, e1, e2, e3, e4, e5, e6, e7, e8⟩ := s2
  refine sh_digest he hcd hs2 (fun s3 hs3 => ?_)
  obtain ⟨t3, d3, n3, f1, f2, f3, f4, f5, f6, f7, f8⟩ := s3
  refine sh_damaged he hcd hs3 (fun s4 hs4 => ?_)
  obtain ⟨t4, d4, n4, g1, g2, g3, g4, g5, g6, g7, g8⟩ := s4
  rw [if_neg (fun z => absurd rfl z)]
  refine sh_due (Q := fun y => wL_lawOf_232 post mc ms (w 0) (w 1) (w 2) (w 3) (nI e) (nI f) x9 (nI i) (nI d) (nI 4) (-2) (nI 4) 0 0 1 (nI 4) 0 (((w 0 + (2 * w 1)) + (3 * w 2)) + (4 * w 3)) (-5) y kc ks t4 d4 n4 g1 g2 g3 g4 g5 g6 g7 g8) hi ?_
  refine sh_232 he hcd hi hs4 (fun t' d' n' b1 b2 b3 b4 b5 b6 b7 b8 hs5 => ?_)
  have e0 : (if cd < 4 then (0 : Int32) else 0) = 0 := ite_self 0
  rw [e0, if_neg (fun z => absurd rfl z.1)] at hs5
  rw [e0, if_neg (fun z => absurd rfl z)]
  refine sh_307 he hf hcd hd hs5 (fun t' d' n' b1 b2 b3 b4 b5 b6 b7 b8 hs6 => br_t rfl ?_)
  rw [if_neg (fun z => absurd rfl z)] at hs6
  exact sh_378A hp hf hcd hi hs6
/-- the column cd is damaged -/
theorem sh_164B (hp : post 1 ()) (he : e < 8) (hf : f < 8) (hcd : cd < 5) (hi : i < 4) (hd : d < 5) (hm : m ≠ 0) (h : sh_St w e f m cd b 0 (t, dr, mn, a1, a2, a3, a4, a5, a6, a7, a8)) :
    wL_lawOf_164 post mc ms (w 0) (w 1) (w 2) (w 3) (nI e) (nI f) (nI cd) (nI i) (nI d) (nI 4) (-2) (nI 4) 1 1 (-4) kc ks t dr mn a1 a2 a3 a4 a5 a6 a7 a8 := by
  unfold wL_lawOf_164
  refine sh_copy he hf hcd h (fun _ s1 hs1 => ?_) (fun z => absurd z hm)
  obtain ⟨t1, d1, n1, c1, c2, c3, c4, c5, c6, c7, c8⟩ := s1
  refine sh_lose he hcd hd hs1 (fun _ s2 hs2 => ?_) (fun z => absurd z hm)
  obtain ⟨t2, d2, n2, e1, e2, e3, e4, e5, e6, e7, e8⟩ := s2
  refine sh_digest he hcd hs2 (fun s3 hs3 => ?_)
  obtain ⟨t3, d3, n3, f1, f2, f3, f4, f5, f6, f7, f8⟩ := s3
  refine sh_damaged he hcd hs3 (fun s4 hs4 => ?_)
  obtain ⟨t4, d4, n4, g1, g2, g3, g4, g5, g6, g7, g8⟩ := s4
  rw [if_pos hm]
  refine sh_due (Q := fun y => wL_lawOf_232 post mc ms (w 0) (w 1) (w 2) (w 3) (nI e) (nI f) (nI cd) (nI i) (nI d) (nI 4) (-2) (nI 4) 1 1 (-4) (-4) (-4) (((w 0 + (2 * w 1)) + (3 * w 2)) + (4 * w 3)) (nI cd) y kc ks t4 d4 n4 g1 g2 g3 g4 g5 g6 g7 g8) hi ?_
  refine sh_232 he hcd hi hs4 (fun t' d' n' b1 b2 b3 b4 b5 b6 b7 b8 hs5 => ?_)
  by_cases g : cd < 4
  · have e0 : (if cd < 4 then (0 : Int32) else m) = 0 := if_pos g
    rw [e0, if_pos ⟨hm, g⟩] at hs5
    rw [e0, if_neg (fun z => absurd rfl z)]
    refine sh_307 he hf hcd hd hs5 (fun t' d' n' b1 b2 b3 b4 b5 b6 b7 b8 hs6 => br_f sh_10 ?_)
    rw [if_neg (fun z => absurd rfl z)] at hs6
    exact sh_378B3 hp hf g hi hs6
  · have e4 : cd = 4 := by omega
    subst e4
    have e0 : (if 4 < 4 then (0 : Int32) else m) = m := if_neg (by omega)
    rw [e0, if_neg (fun z => absurd z.2 (by omega))] at hs5
    rw [e0, if_pos hm]
    refine sh_307 he hf hcd hd hs5 (fun t' d' n' b1 b2 b3 b4 b5 b6 b7 b8 hs6 => br_f sh_10 ?_)
    rw [if_pos hm] at hs6
    exact sh_378B4 hp hf hi hs6
theorem sh_rem1 {c : Nat} (hc : c < 16) : (nI c + 1) - (nI c + 1) / 5 * 5 = nI ((c + 1) % 5) := by
  rw [nI_1]
  exact pk_rem (a := c + 1) (d := 5) (by omega) (by decide) (by decide)
theorem sh_126A (hp : post 1 ()) (he : e < 8) (hf : f < 8) (hcd : cd < 5) (hi : i < 4) (hd : d < 5) (h : sh_St w e f 0 cd b 0 (t, dr, mn, a1, a2, a3, a4, a5, a6, a7, a8)) :
    wL_lawOf_126 post mc ms (w 0) (w 1) (w 2) (w 3) (nI e) (nI f) (nI cd) (nI i) (nI d) (nI 4) (-2) (nI 4) 0 0 kc ks t dr mn a1 a2 a3 a4 a5 a6 a7 a8 := by
  unfold wL_lawOf_126
  rw [sh_rem1 (by omega)]
  have hc1 : (cd + 1) % 5 < 5 := Nat.mod_lt _ (by omega)
  refine ⟨by decide, sh_damage he hcd hc1 h (fun z => absurd rfl z) (fun _ s1 hs1 => ?_)⟩
  obtain ⟨t1, d1, n1, c1, c2, c3, c4, c5, c6, c7, c8⟩ := s1
  have e1 : (0 : Int32) ^^^ 1 = 1 := by decide
  rw [e1] at hs1
  rw [e1, if_pos sh_10]
  refine br_t rfl ⟨by decide, sh_damage he hc1 hc1 hs1 (fun _ z => absurd rfl z) (fun _ s2 hs2 => ?_)⟩
  obtain ⟨t2, d2, n2, e1, e2, e3, e4, e5, e6, e7, e8⟩ := s2
  rw [Int32.xor_self] at hs2
  exact sh_164A hp he hf hc1 hi hd hs2
theorem sh_126B (hp : post 1 ()) (he : e < 8) (hf : f < 8) (hcd : cd < 5) (hi : i < 4) (hd : d < 5) (hm : m ≠ 0) (h : sh_St w e f m cd b 0 (t, dr, mn, a1, a2, a3, a4, a5, a6, a7, a8)) :
    wL_lawOf_126 post mc ms (w 0) (w 1) (w 2) (w 3) (nI e) (nI f) (nI cd) (nI i) (nI d) (nI 4) (-2) (nI 4) 1 1 kc ks t dr mn a1 a2 a3 a4 a5 a6 a7 a8 := by
  unfold wL_lawOf_126
  rw [sh_rem1 (by omega)]
  have hc1 : (cd + 1) % 5 < 5 := Nat.mod_lt _ (by omega)
  have hne : (cd + 1) % 5 ≠ cd := by omega
  refine ⟨by decide, sh_damage he hcd hc1 h (fun _ _ s1 hs1 => ?_) (fun z => absurd z (fun y => y.elim hm hne))⟩
  obtain ⟨t1, d1, n1, c1, c2, c3, c4, c5, c6, c7, c8⟩ := s1
  exact br_f sh_10 (sh_164B hp he hf hcd hi hd hm hs1)
theorem sh_rem15 (x : Int32) : ∃ c : Nat, c < 5 ∧ (x &&& 15) - (x &&& 15) / 5 * 5 = nI c := by
  obtain ⟨j, hj, ej⟩ := pk_andE x 4 (m := 15) (by decide)
  refine ⟨j % 5, Nat.mod_lt _ (by omega), ?_⟩
  rw [ej]
  exact pk_rem (a := j) (d := 5) (by omega) (by decide) (by decide)
theorem sh_lawOf {p0 p1 p2 p3 p4 p5 : Int32} (hp : post 1 ()) : wpL_lawOf post 96 1536 () p0 p1 p2 p3 p4 p5 := by
  obtain ⟨e, he, ee⟩ := pk_andE p4 3 (m := 7) (by decide)
  obtain ⟨i, hi, ei⟩ := pk_andE (p4 >>> ((7 : Int32) &&& 31)) 2 (m := 3) (by decide)
  obtain ⟨c, hc, ec⟩ := sh_rem15 (p4 >>> ((3 : Int32) &&& 31))
  obtain ⟨d, hd, ed⟩ := sh_rem15 (p4 >>> ((9 : Int32) &&& 31))
  obtain ⟨f, hf, ef⟩ := pk_andE (nI e + 1) 3 (m := 7) (by decide)
  obtain ⟨w, hw⟩ : ∃ w : Nat → Int32, w = upd (upd (upd (upd (fun _ => 0) 0 p0) 1 p1) 2 p2) 3 p3 := ⟨_, rfl⟩
  have w0 : w 0 = p0 := by rw [hw]; rfl
  have w1 : w 1 = p1 := by rw [hw]; rfl
  have w2 : w 2 = p2 := by rw [hw]; rfl
  have w3 : w 3 = p3 := by rw [hw]; rfl
  refine ⟨by decide, by decide, 8, 189, by decide, by decide, ?_⟩
  refine ⟨by decide, by decide, by decide, by decide, by decide, by decide, by decide, by decide, by decide, by decide, by decide, by decide, by decide, by decide, by decide, by decide, ?_⟩
  refine nm_r ee (nm_r ef ⟨by decide, nm_r ec (nm_r ei ⟨by decide, nm_r ed ?_⟩)⟩)
  refine sh_draft (n := 0) (by omega) (sh_draft (n := 1) (by omega) (sh_draft (n := 2) (by omega) (sh_draft (n := 3) (by omega) (sh_draft4 ?_))))
  refine sh_put (w := w) (f := f) (cd := c) he (fun _ => rfl) (fun _ => rfl) (fun j _ => by rw [hw]) (fun s1 hs1 => ?_)
  obtain ⟨t1, d1, n1, c1, c2, c3, c4, c5, c6, c7, c8⟩ := s1
  refine sh_damage he hc hc hs1 (fun z => absurd rfl z) (fun _ s2 hs2 => ?_)
  obtain ⟨t2, d2, n2, e1, e2, e3, e4, e5, e6, e7, e8⟩ := s2
  rw [Int32.zero_xor] at hs2
  rw [Int32.zero_xor, ← w0, ← w1, ← w2, ← w3]
  by_cases g : p5 = 0
  · rw [g] at hs2
    rw [if_neg (show ¬ p5 ≠ 0 from fun z => z g)]
    exact br_t g (sh_126A hp he hf hc hi hd hs2)
  · rw [if_pos (show p5 ≠ 0 from g)]
    exact br_f g (sh_126B hp he hf hc hi hd g hs2)
end
theorem sh_cell {pst : Int32 → Prop} {L : Nat} {xs : Nat → Int32} {u : St0} (j : Nat) (hL : L ≤ 6) (hj : j < 6) (h : ∀ v, pst v) : wpL_cellAt pst L xs u (nI j) :=
  pk_le L j (fun _ => h _) (fun z => ⟨pk_in j L z, h _⟩)
theorem i_vc (xs : Nat → Int32) (L : Nat) (hL : L ≤ 6) : wpL_law (fun r => r = 1) L xs :=
  sh_cell 0 hL (by omega) (fun r1 => sh_cell 1 hL (by omega) (fun r2 => sh_cell 2 hL (by omega) (fun r3 => sh_cell 3 hL (by omega) (fun r4 => sh_cell 4 hL (by omega) (fun r5 => sh_cell 5 hL (by omega) (fun r6 => ⟨96, 1536, by decide, by decide, sh_lawOf rfl⟩))))))
end
