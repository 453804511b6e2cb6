section
/-! masks of eight bits: naturals below 256 -/
theorem ps_or (a b : Nat) : nI a ||| nI b = nI (a ||| b) := by
  apply Int32.toBitVec_inj.1
  show BitVec.ofNat 32 a ||| BitVec.ofNat 32 b = BitVec.ofNat 32 (a ||| b)
  apply BitVec.eq_of_getLsbD_eq
  intro i hi
  simp [hi]
theorem ps_and (a b : Nat) : nI a &&& nI b = nI (a &&& b) := by
  apply Int32.toBitVec_inj.1
  show BitVec.ofNat 32 a &&& BitVec.ofNat 32 b = BitVec.ofNat 32 (a &&& b)
  apply BitVec.eq_of_getLsbD_eq
  intro i hi
  simp [hi]
theorem ps_xor (a b : Nat) : nI a ^^^ nI b = nI (a ^^^ b) := by
  apply Int32.toBitVec_inj.1
  show BitVec.ofNat 32 a ^^^ BitVec.ofNat 32 b = BitVec.ofNat 32 (a ^^^ b)
  apply BitVec.eq_of_getLsbD_eq
  intro i hi
  simp [hi]
/-- what of s is not in p -/
def ps_nw (s p : Nat) : Nat := s &&& (p ^^^ 4294967295)
theorem ps_nwI (s p : Nat) : nI s &&& (nI p ^^^ (-1)) = nI (ps_nw s p) := by
  rw [show (-1 : Int32) = nI 4294967295 from by decide +kernel, ps_xor, ps_and]
  rfl
theorem ps_nw_lt {s p : Nat} (h : s < 256) : ps_nw s p < 256 := Nat.lt_of_le_of_lt Nat.and_le_left h
theorem ps_or_lt {a b : Nat} (ha : a < 256) (hb : b < 256) : a ||| b < 256 := Nat.or_lt_two_pow (n := 8) ha hb
theorem ps_tb8 {s i : Nat} (h : s < 256) (hi : 8 ≤ i) : s.testBit i = false :=
  Nat.testBit_lt_two_pow (Nat.lt_of_lt_of_le h (Nat.pow_le_pow_right (n := 2) (by omega) hi))
theorem ps_ones : ∀ i, i < 8 → Nat.testBit 4294967295 i = true := by decide +kernel
theorem ps_nw_tb {s p i : Nat} (h : s < 256) : (ps_nw s p).testBit i = (s.testBit i && !p.testBit i) := by
  unfold ps_nw
  rw [Nat.testBit_and, Nat.testBit_xor]
  rcases Nat.lt_or_ge i 8 with hi | hi
  · rw [ps_ones i hi, Bool.xor_true]
  · rw [ps_tb8 h hi, Bool.false_and, Bool.false_and]
theorem ps_or_nw {s p : Nat} (h : s < 256) : p ||| ps_nw s p = p ||| s := by
  apply Nat.eq_of_testBit_eq
  intro i
  rw [Nat.testBit_or, Nat.testBit_or, ps_nw_tb h]
  cases p.testBit i <;> simp
def ps_sub (s p : Nat) : Prop := ∀ i, s.testBit i = true → p.testBit i = true
theorem ps_sub_or {s p : Nat} (h : ps_sub s p) : p ||| s = p := by
  apply Nat.eq_of_testBit_eq
  intro i
  rw [Nat.testBit_or]
  cases e : s.testBit i
  · rw [Bool.or_false]
  · rw [h i e, Bool.or_true]
theorem ps_sub_refl (p : Nat) : ps_sub p p := fun _ h => h
theorem ps_sub_trans {a b c : Nat} (h : ps_sub a b) (g : ps_sub b c) : ps_sub a c := fun i e => g i (h i e)
theorem ps_sub_0 (p : Nat) : ps_sub 0 p := by
  intro i e
  rw [Nat.zero_testBit] at e
  exact absurd e Bool.false_ne_true
theorem ps_nw_sub {s p : Nat} (h : s < 256) : ps_sub (ps_nw s p) s := by
  intro i e
  rw [ps_nw_tb h, Bool.and_eq_true] at e
  exact e.1
theorem ps_sub_orI {a b c : Nat} (h : ps_sub a c) (g : ps_sub b c) : ps_sub (a ||| b) c := by
  intro i e
  rw [Nat.testBit_or, Bool.or_eq_true] at e
  rcases e with e | e
  · exact h i e
  · exact g i e
theorem ps_sub_r (a b : Nat) : ps_sub b (a ||| b) := by
  intro i e
  rw [Nat.testBit_or, e, Bool.or_true]
theorem ps_n16 : ∀ m, m < 256 → (nI m).toInt16.toInt32 = nI m := by decide +kernel
theorem ps_n8 : ∀ m, m < 8 → (nI m).toInt8.toInt32 = nI m := by decide +kernel
theorem ps_shl : ∀ j, j < 8 → (1 : Int32) <<< (nI j &&& 31) = nI (2 ^ j) := by decide +kernel
theorem ps_pw : ∀ j, j < 8 → 2 ^ j < 256 := by decide +kernel
theorem ps_bit : ∀ m, m < 256 → ∀ j, j < 8 → ((nI m >>> (nI j &&& 31)) &&& 1) = nI (m.testBit j).toNat := by decide +kernel
/-! the bits of present: slot 0, slot 12 -/
def ps_pr (b0 b12 : Bool) : Nat := b0.toNat + b12.toNat * 4096
def ps_on (b0 b12 : Bool) (k : Nat) : Bool := (k == 0 && b0) || (k == 12 && b12)
theorem ps_prF0 : ∀ b0 b12 : Bool, ∀ k, k < 13 → ps_on b0 b12 k = false → ((nI (ps_pr b0 b12) >>> (nI k &&& 31)) &&& 1) = 0 := by decide +kernel
theorem ps_prT0 : ∀ b0 b12 : Bool, ∀ k, k < 13 → ps_on b0 b12 k = true → ¬ ((nI (ps_pr b0 b12) >>> (nI k &&& 31)) &&& 1) = 0 := by decide +kernel
theorem ps_prF {b0 b12 : Bool} {k : Nat} (hk : k < 13) (h : ps_on b0 b12 k = false) : ((nI (ps_pr b0 b12) >>> (nI k &&& 31)) &&& 1) = 0 := ps_prF0 b0 b12 k hk h
theorem ps_prT {b0 b12 : Bool} {k : Nat} (hk : k < 13) (h : ps_on b0 b12 k = true) : ¬ ((nI (ps_pr b0 b12) >>> (nI k &&& 31)) &&& 1) = 0 := ps_prT0 b0 b12 k hk h
theorem ps_onE {b0 b12 : Bool} {k : Nat} (h : ps_on b0 b12 k = true) : (k = 0 ∧ b0 = true) ∨ (k = 12 ∧ b12 = true) := by
  unfold ps_on at h
  rw [Bool.or_eq_true, Bool.and_eq_true, Bool.and_eq_true, beq_iff_eq, beq_iff_eq] at h
  exact h
/-! pictures of arrays of eight masks -/
def ps_pic (a : Nat → Int32) (F : Nat → Nat) : Prop := ∀ j, j < 8 → F j < 256 ∧ a j = nI (F j)
theorem ps_picU {a : Nat → Int32} {F G : Nat → Nat} {x m : Nat} (h : ps_pic a F) (hm : m < 256) (hx : G x = m) (ho : ∀ j, j < 8 → j ≠ x → G j = F j) : ps_pic (upd a x (nI m)) G := by
  intro j hj
  by_cases e : j = x
  · subst e
    rw [hx]
    exact ⟨hm, pk_us⟩
  · rw [ho j hj e, pk_un e]
    exact h j hj
theorem ps_picE {a : Nat → Int32} {F G : Nat → Nat} (h : ps_pic a F) (he : ∀ j, j < 8 → G j = F j) : ps_pic a G := by
  intro j hj
  rw [he j hj]
  exact h j hj
/-- the first i places take up h where l has its bit -/
def ps_up (P : Nat → Nat) (l i : Nat) (h : Nat → Nat) : Nat → Nat := fun j => P j ||| (if j < i ∧ l.testBit j = true then h j else 0)
theorem ps_up_ne {P h : Nat → Nat} {l i j : Nat} (e : j ≠ i) : ps_up P l (i + 1) h j = ps_up P l i h j := by
  unfold ps_up
  by_cases c : j < i
  · by_cases d : l.testBit j = true
    · rw [if_pos ⟨by omega, d⟩, if_pos ⟨c, d⟩]
    · rw [if_neg (fun z => d z.2), if_neg (fun z => d z.2)]
  · rw [if_neg (fun z => by omega), if_neg (fun z => c z.1)]
theorem ps_up_i {P h : Nat → Nat} {l i : Nat} : ps_up P l i h i = P i := by
  unfold ps_up
  rw [if_neg (fun z => Nat.lt_irrefl i z.1), Nat.or_zero]
theorem ps_up_f {P h : Nat → Nat} {l i : Nat} (e : l.testBit i = false) (j : Nat) : ps_up P l (i + 1) h j = ps_up P l i h j := by
  by_cases c : j = i
  · subst c
    rw [ps_up_i]
    unfold ps_up
    rw [if_neg (fun z => by rw [e] at z; exact Bool.false_ne_true z.2), Nat.or_zero]
  · exact ps_up_ne c
theorem ps_up_t {P h : Nat → Nat} {l i : Nat} (e : l.testBit i = true) : ps_up P l (i + 1) h i = P i ||| h i := by
  unfold ps_up
  rw [if_pos ⟨Nat.lt_succ_self i, e⟩]
theorem ps_up_0 {P h : Nat → Nat} {l : Nat} (j : Nat) : ps_up P l 0 h j = P j := by
  unfold ps_up
  rw [if_neg (fun z => Nat.not_lt_zero j z.1), Nat.or_zero]
theorem ps_up_8 {P h : Nat → Nat} {l j : Nat} (hj : j < 8) : P j ||| (if l.testBit j = true then h j else 0) = ps_up P l 8 h j := by
  unfold ps_up
  by_cases d : l.testBit j = true
  · rw [if_pos d, if_pos ⟨hj, d⟩]
  · rw [if_neg d, if_neg (fun z => d z.2)]
end
section
section
variable {f k : Int32} {a1 a2 a3 a4 a5 a6 : Nat → Int32}
theorem ps_ne10 : ¬ (1 : Int32) = 0 := by decide
theorem ps_at {a : Nat → Int32} {i v : Nat} (hi : i < 13) (e : a i = nI v) : a (nI i).toNatClampNeg = nI v := by
  rw [nI_clamp (by omega)]
  exact e
/-! one bit -/
theorem ps_in {post : Int32 → Prop} {m j : Nat} (hm : m < 256) (hj : j < 8) (H0 : m.testBit j = false → post 0) (H1 : m.testBit j = true → post 1) {M J : Int32} (eM : M = nI m) (eJ : J = nI j) : wpX_in post () M J := by
  subst eM eJ
  unfold wpX_in
  rw [ps_bit m hm j hj]
  cases h : m.testBit j
  · exact br_t rfl (H0 h)
  · exact br_f (by decide) (H1 h)
theorem ps_inS {post : Int32 → Prop} {M J : Int32} (h0 : post 0) (h1 : post 1) : wpX_in post () M J :=
  br_c (fun _ => h0) (fun _ => h1)
/-! point -/
theorem ps_point {post : St2 → Prop} {x s p g : Nat} (hx : x < 8) (hs : s < 256) (hp : p < 256) (hg : g < 256) (e4 : a4 x = nI p) (e5 : a5 x = nI g)
    (H : post (f, k, a1, a2, a3, upd a4 x (nI (p ||| s)), upd a5 x (nI (g ||| ps_nw s p)), a6)) {X S : Int32} (eX : X = nI x) (eS : S = nI s) :
    wpX_point post (f, k, a1, a2, a3, a4, a5, a6) X S := by
  subst eX eS
  unfold wpX_point
  dsimp only
  rw [nI_clamp (show x < 2 ^ 31 by omega), e4, e5]
  refine ⟨pk_in x 8 hx, nm_r (ps_nwI s p) ⟨pk_in x 8 hx, pk_in x 8 hx, nm_r ?_ ⟨pk_in x 8 hx, pk_in x 8 hx, nm_r ?_ H⟩⟩⟩
  · rw [ps_or, ps_n16 _ (ps_or_lt hp (ps_nw_lt hs)), ps_or_nw hs]
  · rw [ps_or, ps_n16 _ (ps_or_lt hg (ps_nw_lt hs))]
theorem ps_pointS {post : St2 → Prop} {x : Nat} (hx : x < 8) (H : ∀ b4 b5, post (f, k, a1, a2, a3, b4, b5, a6)) {X S : Int32} (eX : X = nI x) :
    wpX_point post (f, k, a1, a2, a3, a4, a5, a6) X S := by
  subst eX
  exact ⟨pk_in x 8 hx, nm_e ⟨pk_in x 8 hx, pk_in x 8 hx, nm_e ⟨pk_in x 8 hx, pk_in x 8 hx, nm_e (H _ _)⟩⟩⟩
/-! link -/
theorem ps_linkS {post : St2 → Prop} {p q : Nat} (hp : p < 8) (hq : q < 8) (H : ∀ b4 b5 b6, post (f, k, a1, a2, a3, b4, b5, b6)) {X Y : Int32} (eX : X = nI p) (eY : Y = nI q) :
    wpX_link post (f, k, a1, a2, a3, a4, a5, a6) X Y := by
  subst eX
  exact ⟨pk_in p 8 hp, ps_inS (br_t rfl ⟨pk_in p 8 hp, pk_in p 8 hp, nm_e ⟨pk_in p 8 hp, ps_pointS hq (fun _ _ => H _ _ _) eY⟩⟩) (br_f ps_ne10 (H _ _ _))⟩
/-- a link that wasn't there, from a variable that points nowhere to one that points nowhere -/
theorem ps_link0 {post : St2 → Prop} {p q : Nat} (hp : p < 8) (hq : q < 8) (e6 : a6 p = nI 0) (e4p : a4 p = nI 0) (e4 : a4 q = nI 0) (e5 : a5 q = nI 0)
    (H : post (f, k, a1, a2, a3, upd a4 q (nI 0), upd a5 q (nI 0), upd a6 p (nI (2 ^ q)))) {X Y : Int32} (eX : X = nI p) (eY : Y = nI q) :
    wpX_link post (f, k, a1, a2, a3, a4, a5, a6) X Y := by
  subst eX eY
  unfold wpX_link
  dsimp only
  rw [nI_clamp (show p < 2 ^ 31 by omega), e6, e4p]
  have nz : Nat.testBit 0 q = true → False := fun z => by
    rw [Nat.zero_testBit] at z
    exact Bool.false_ne_true z
  have ea : upd a6 p (nI 0 ||| (1 : Int32) <<< (nI q &&& 31)).toInt16.toInt32 = upd a6 p (nI (2 ^ q)) := by
    rw [ps_shl q hq, ps_or, ps_n16 _ (ps_or_lt (by omega) (ps_pw q hq)), Nat.zero_or]
  exact ⟨pk_in p 8 hp, ps_in (m := 0) (j := q) (by omega) hq (fun _ => br_t rfl ⟨pk_in p 8 hp, pk_in p 8 hp, nm_r ea ⟨pk_in p 8 hp, ps_point (s := 0) (p := 0) (g := 0) hq (by omega) (by omega) (by omega) e4 e5 H rfl rfl⟩⟩) (fun z => (nz z).elim) rfl rfl⟩
/-! follow -/
theorem ps_f90S {post : St2 → Prop} {J : Int32 → Int32 → Int32 → (Nat → Int32) → (Nat → Int32) → (Nat → Int32) → (Nat → Int32) → (Nat → Int32) → (Nat → Int32) → Prop} {K i y : Nat} {x3 x4 x5 : Int32} (hk : K < 13) (hi : i < 8) (hy : y < 8) (e3 : a3 K = nI y)
    (HJ : ∀ b4 b5 b6, J (nI (i + 1)) f k a1 a2 a3 b4 b5 b6) : wX_follow_90 post J (nI K) x3 x4 x5 (nI i) f k a1 a2 a3 a4 a5 a6 :=
  ps_inS (br_t rfl (nm_r (nI_1 i) (HJ _ _ _))) (br_f ps_ne10 (br_c (fun _ => nm_r (nI_1 i) (HJ _ _ _)) (fun _ => ⟨pk_in K 13 hk, ps_linkS hy hi (fun _ _ _ => nm_r (nI_1 i) (HJ _ _ _)) (ps_at hk e3) rfl⟩)))
theorem ps_f57S {post : St2 → Prop} {K x y : Nat} {x3 x4 x5 : Int32} (hk : K < 13) (hx : x < 8) (hy : y < 8) (e2 : a2 K = nI x) (e3 : a3 K = nI y)
    (H : ∀ b4 b5 b6, post (f, k, a1, a2, a3, b4, b5, b6)) : ∃ n, wX_follow_57 post (nI K) x3 x4 x5 n 0 f k a1 a2 a3 a4 a5 a6 :=
  pk_loop (σ := (Nat → Int32) × (Nat → Int32) × (Nat → Int32)) (fun n i s => wX_follow_57 post (nI K) x3 x4 x5 n (nI i) f k a1 a2 a3 s.1 s.2.1 s.2.2) (fun _ _ => True) 8 0 (a4, a5, a6) (by omega) trivial
    (fun n s _ => pk_le 8 8 (fun _ => H _ _ _) (fun z => absurd z (by omega)))
    (fun n i s hi _ hw => pk_le 8 i (fun z => absurd z (by omega)) (fun _ => by
      have J : ∀ b4 b5 b6, wX_follow_90 post (wX_follow_57 post (nI K) x3 x4 x5 n) (nI K) x3 x4 x5 (nI i) f k a1 a2 a3 b4 b5 b6 :=
        fun b4 b5 b6 => ps_f90S hk hi hy e3 (fun c4 c5 c6 => hw (c4, c5, c6) trivial)
      exact ps_inS (br_t rfl (J _ _ _)) (br_f ps_ne10 (br_c (fun _ => J _ _ _) (fun _ => ⟨pk_in K 13 hk, ps_linkS hi hx (fun _ _ _ => J _ _ _) rfl (ps_at hk e2)⟩)))))
theorem ps_followS {post : St2 → Prop} {K x y : Nat} {v news : Int32} (hk : K < 13) (hx : x < 8) (hy : y < 8) (e2 : a2 K = nI x) (e3 : a3 K = nI y)
    (H : ∀ b4 b5 b6, post (f, k, a1, a2, a3, b4, b5, b6)) : wpX_follow post (f, k, a1, a2, a3, a4, a5, a6) (nI K) v news := by
  have E : ∀ z0, wX_follow_25 post (nI K) v news z0 f k a1 a2 a3 a4 a5 a6 := fun z0 =>
    ⟨pk_in K 13 hk, br_c (fun _ => ⟨pk_in K 13 hk, br_c (fun _ => ps_f57S hk hx hy e2 e3 H) (fun _ => ps_f57S hk hx hy e2 e3 H)⟩) (fun _ => ps_f57S hk hx hy e2 e3 H)⟩
  exact ⟨pk_in K 13 hk, br_c (fun _ => ⟨pk_in K 13 hk, br_c (fun _ => E 1) (fun _ => E 0)⟩) (fun _ => E 0)⟩
theorem ps_f57N {post : St2 → Prop} {X x3 : Int32} (H : post (f, k, a1, a2, a3, a4, a5, a6)) : ∃ n, wX_follow_57 post X x3 0 0 n 0 f k a1 a2 a3 a4 a5 a6 :=
  pk_loop (σ := Unit) (fun n i _ => wX_follow_57 post X x3 0 0 n (nI i) f k a1 a2 a3 a4 a5 a6) (fun _ _ => True) 8 0 () (by omega) trivial
    (fun n s _ => pk_le 8 8 (fun _ => H) (fun z => absurd z (by omega)))
    (fun n i s hi _ hw => pk_le 8 i (fun z => absurd z (by omega)) (fun _ => by
      have J : wX_follow_90 post (wX_follow_57 post X x3 0 0 n) X x3 0 0 (nI i) f k a1 a2 a3 a4 a5 a6 :=
        ps_inS (br_t rfl (nm_r (nI_1 i) (hw () trivial))) (br_f ps_ne10 (br_t rfl (nm_r (nI_1 i) (hw () trivial))))
      exact ps_inS (br_t rfl J) (br_f ps_ne10 (br_t rfl J))))
theorem ps_c2 : ∀ c, c < 2 → ¬ nI c = 2 ∧ ¬ nI c = 3 := by decide +kernel
theorem ps_followN {post : St2 → Prop} {K c : Nat} {v news : Int32} (hk : K < 13) (hc : c < 2) (e1 : a1 K = nI c)
    (H : post (f, k, a1, a2, a3, a4, a5, a6)) : wpX_follow post (f, k, a1, a2, a3, a4, a5, a6) (nI K) v news :=
  ⟨pk_in K 13 hk, br_f (by rw [ps_at hk e1]; exact (ps_c2 c hc).1) ⟨pk_in K 13 hk, br_f (by rw [ps_at hk e1]; exact (ps_c2 c hc).2) (ps_f57N H)⟩⟩
/-! passOn -/
theorem ps_p48S {post : St2 → Prop} {v : Nat} {x2 : Int32} (hv : v < 8) (H : ∀ b4 b5, post (f, k, a1, a2, a3, b4, b5, a6)) : ∃ n, wX_passOn_48 post (nI v) x2 n 0 f k a1 a2 a3 a4 a5 a6 :=
  pk_loop (σ := (Nat → Int32) × (Nat → Int32)) (fun n i s => wX_passOn_48 post (nI v) x2 n (nI i) f k a1 a2 a3 s.1 s.2 a6) (fun _ _ => True) 8 0 (a4, a5) (by omega) trivial
    (fun n s _ => pk_le 8 8 (fun _ => H _ _) (fun z => absurd z (by omega)))
    (fun n i s hi _ hw => pk_le 8 i (fun z => absurd z (by omega)) (fun _ => ⟨pk_in v 8 hv, ps_inS (br_t rfl (nm_r (nI_1 i) (hw s trivial))) (br_f ps_ne10 (ps_pointS hi (fun b4 b5 => nm_r (nI_1 i) (hw (b4, b5) trivial)) rfl))⟩))
theorem ps_p48 {post : St2 → Prop} {v s l : Nat} {P g : Nat → Nat} (hv : v < 8) (hs : s < 256) (hl : l < 256) (h4 : ps_pic a4 P) (h5 : ps_pic a5 g) (e6 : a6 v = nI l)
    (H : ∀ b4 b5, ps_pic b4 (fun j => P j ||| if l.testBit j = true then s else 0) → ps_pic b5 (fun j => g j ||| if l.testBit j = true then ps_nw s (P j) else 0) → post (f, k, a1, a2, a3, b4, b5, a6)) :
    ∃ n, wX_passOn_48 post (nI v) (nI s) n 0 f k a1 a2 a3 a4 a5 a6 :=
  pk_loop (σ := (Nat → Int32) × (Nat → Int32)) (fun n i t => wX_passOn_48 post (nI v) (nI s) n (nI i) f k a1 a2 a3 t.1 t.2 a6)
    (fun i t => ps_pic t.1 (ps_up P l i (fun _ => s)) ∧ ps_pic t.2 (ps_up g l i (fun j => ps_nw s (P j)))) 8 0 (a4, a5) (by omega)
    ⟨ps_picE h4 (fun j _ => ps_up_0 j), ps_picE h5 (fun j _ => ps_up_0 j)⟩
    (fun n t h => pk_le 8 8 (fun _ => H _ _ (ps_picE h.1 (fun j hj => ps_up_8 (h := fun _ => s) hj)) (ps_picE h.2 (fun j hj => ps_up_8 (h := fun j => ps_nw s (P j)) hj))) (fun z => absurd z (by omega)))
    (fun n i t hi h hw => pk_le 8 i (fun z => absurd z (by omega)) (fun _ => by
      have p4 := h.1 i hi
      have p5 := h.2 i hi
      rw [ps_up_i] at p4 p5
      refine ⟨pk_in v 8 hv, ps_in (m := l) (j := i) hl hi (fun e => br_t rfl (nm_r (nI_1 i) (hw t ⟨ps_picE h.1 (fun j _ => ps_up_f e j), ps_picE h.2 (fun j _ => ps_up_f e j)⟩)))
        (fun e => br_f ps_ne10 (ps_point hi hs p4.1 p5.1 p4.2 p5.2 (nm_r (nI_1 i) (hw (_, _) ⟨ps_picU h.1 (ps_or_lt p4.1 hs) (ps_up_t e) (fun j _ ne => ps_up_ne ne), ps_picU h.2 (ps_or_lt p5.1 (ps_nw_lt hs)) (ps_up_t e) (fun j _ ne => ps_up_ne ne)⟩)) rfl rfl)) ?_ rfl⟩
      rw [nI_clamp (by omega)]
      exact e6))
theorem ps_p16S {post : St2 → Prop} {b0 b12 : Bool} {v : Nat} {x2 : Int32} (hv : v < 8) (hS : ∀ K, K < 13 → ps_on b0 b12 K = true → ∃ x y, x < 8 ∧ y < 8 ∧ a2 K = nI x ∧ a3 K = nI y)
    (H : ∀ b4 b5 b6, post (nI (ps_pr b0 b12), k, a1, a2, a3, b4, b5, b6)) : ∃ n, wX_passOn_16 post (nI v) x2 n 0 (nI (ps_pr b0 b12)) k a1 a2 a3 a4 a5 a6 :=
  pk_loop (σ := (Nat → Int32) × (Nat → Int32) × (Nat → Int32)) (fun n i s => wX_passOn_16 post (nI v) x2 n (nI i) (nI (ps_pr b0 b12)) k a1 a2 a3 s.1 s.2.1 s.2.2) (fun _ _ => True) 13 0 (a4, a5, a6) (by omega) trivial
    (fun n s _ => pk_lt 12 13 (fun _ => ps_p48S hv (fun _ _ => H _ _ _)) (fun z => absurd z (by omega)))
    (fun n i s hi _ hw => pk_lt 12 i (fun z => absurd z (by omega)) (fun _ => by
      cases h : ps_on b0 b12 i
      · exact br_t (ps_prF hi h) (nm_r (nI_1 i) (hw s trivial))
      · obtain ⟨x, y, hx, hy, e2, e3⟩ := hS i hi h
        exact br_f (ps_prT hi h) (ps_followS hi hx hy e2 e3 (fun b4 b5 b6 => nm_r (nI_1 i) (hw (b4, b5, b6) trivial)))))
theorem ps_passS {post : St2 → Prop} {b0 b12 : Bool} {v : Nat} (hv : v < 8) (hS : ∀ K, K < 13 → ps_on b0 b12 K = true → ∃ x y, x < 8 ∧ y < 8 ∧ a2 K = nI x ∧ a3 K = nI y)
    (H : ∀ b4 b5 b6, post (nI (ps_pr b0 b12), k, a1, a2, a3, b4, b5, b6)) : wpX_passOn post (nI (ps_pr b0 b12), k, a1, a2, a3, a4, a5, a6) (nI v) :=
  ⟨pk_in v 8 hv, nm_e ⟨pk_in v 8 hv, nm_e (ps_p16S hv hS H)⟩⟩
theorem ps_p16N {post : St2 → Prop} {b0 b12 : Bool} {x1 x2 : Int32} (hN : ∀ K, K < 13 → ps_on b0 b12 K = true → ∃ c, c < 2 ∧ a1 K = nI c)
    (H : ∃ n, wX_passOn_48 post x1 x2 n 0 (nI (ps_pr b0 b12)) k a1 a2 a3 a4 a5 a6) : ∃ n, wX_passOn_16 post x1 x2 n 0 (nI (ps_pr b0 b12)) k a1 a2 a3 a4 a5 a6 :=
  pk_loop (σ := Unit) (fun n i _ => wX_passOn_16 post x1 x2 n (nI i) (nI (ps_pr b0 b12)) k a1 a2 a3 a4 a5 a6) (fun _ _ => True) 13 0 () (by omega) trivial
    (fun n s _ => pk_lt 12 13 (fun _ => H) (fun z => absurd z (by omega)))
    (fun n i s hi _ hw => pk_lt 12 i (fun z => absurd z (by omega)) (fun _ => by
      cases h : ps_on b0 b12 i
      · exact br_t (ps_prF hi h) (nm_r (nI_1 i) (hw s trivial))
      · obtain ⟨c, hc, e1⟩ := hN i hi h
        exact br_f (ps_prT hi h) (ps_followN hi hc e1 (nm_r (nI_1 i) (hw () trivial)))))
theorem ps_passN {post : St2 → Prop} {b0 b12 : Bool} {v : Nat} {P g L : Nat → Nat} (hv : v < 8) (hN : ∀ K, K < 13 → ps_on b0 b12 K = true → ∃ c, c < 2 ∧ a1 K = nI c)
    (h4 : ps_pic a4 P) (h5 : ps_pic a5 g) (h6 : ps_pic a6 L)
    (H : ∀ b4 b5, ps_pic b4 (fun j => P j ||| if (L v).testBit j = true then g v else 0) → ps_pic b5 (fun j => (if j = v then 0 else g j) ||| if (L v).testBit j = true then ps_nw (g v) (P j) else 0) → post (nI (ps_pr b0 b12), k, a1, a2, a3, b4, b5, a6)) :
    wpX_passOn post (nI (ps_pr b0 b12), k, a1, a2, a3, a4, a5, a6) (nI v) :=
  ⟨pk_in v 8 hv, nm_r (e' := nI (g v)) (by rw [nI_clamp (by omega)]; exact (h5 v hv).2) ⟨pk_in v 8 hv, nm_r (e' := upd a5 v (nI 0)) (by rw [nI_clamp (by omega)]; rfl)
    (ps_p16N hN (ps_p48 (g := fun j => if j = v then 0 else g j) hv (h5 v hv).1 (h6 v hv).1 h4 (ps_picU h5 (by omega) (if_pos rfl) (fun j _ ne => if_neg ne)) (h6 v hv).2 H))⟩⟩
/-! waiting -/
theorem ps_wait {post : Int32 → Prop} (H0 : (∀ j, j < 8 → a5 j = 0) → post (-1)) (H1 : ∀ v, v < 8 → ¬ a5 v = 0 → post (nI v)) : wpX_waiting post (f, k, a1, a2, a3, a4, a5, a6) :=
  pk_loop (σ := Unit) (fun n i _ => wX_waiting_2 post f k a1 a2 a3 a4 a5 a6 n (nI i)) (fun i _ => ∀ j, j < i → a5 j = 0) 8 0 () (by omega) lt_0
    (fun n s h => pk_le 8 8 (fun _ => H0 h) (fun z => absurd z (by omega)))
    (fun n i s hi h hw => pk_le 8 i (fun z => absurd z (by omega)) (fun _ => ⟨pk_in i 8 hi, by
      rw [nI_clamp (show i < 2 ^ 31 by omega)]
      exact br_c (fun e => nm_r (nI_1 i) (hw () (lt_s h e))) (fun e => H1 i hi e)⟩))
end
end
section
section
variable {k : Int32} {a1 a2 a3 a4 a5 a6 : Nat → Int32} {post : St2 → Prop} {b0 b12 : Bool}
theorem ps_m1neg : ¬ (0 : Int32) ≤ -1 := by decide
theorem ps_nI0 {m : Nat} (h : m < 256) (e : nI m = 0) : m = 0 := (nI_eq (b := 0) (by omega) (by omega)).mp e
/-- round 0 with one variable that waits -/
def ps_st0 (T F L : Nat → Nat) : Prop := (∃ z, z < 8 ∧ T z ≠ 0) ∧ ∀ v, v < 8 → T v ≠ 0 → (∀ j, j < 8 → F j = T j ||| if (L v).testBit j = true then T v else 0) ∧ (∀ j, j < 8 → j ≠ v → T j = 0)
theorem ps_142 {T F L : Nat → Nat} (hN : ∀ K, K < 13 → ps_on b0 b12 K = true → ∃ c, c < 2 ∧ a1 K = nI c)
    (h6 : ps_pic a6 L) (hcl : ∀ v j, v < 8 → j < 8 → (L v).testBit j = true → ps_sub (F v) (F j))
    (hI : (∃ g, ps_pic a4 F ∧ ps_pic a5 g ∧ ∀ j, j < 8 → ps_sub (g j) (F j)) ∨ (ps_pic a4 T ∧ ps_pic a5 T ∧ ps_st0 T F L))
    (H : ∀ b4 b5, ps_pic b4 F → post (nI (ps_pr b0 b12), k, a1, a2, a3, b4, b5, a6)) :
    ∃ n, wX_solve_142 post n 0 (nI (ps_pr b0 b12)) k a1 a2 a3 a4 a5 a6 :=
  pk_loop (σ := (Nat → Int32) × (Nat → Int32)) (fun n i t => wX_solve_142 post n (nI i) (nI (ps_pr b0 b12)) k a1 a2 a3 t.1 t.2 a6)
    (fun i t => (∃ g, ps_pic t.1 F ∧ ps_pic t.2 g ∧ ∀ j, j < 8 → ps_sub (g j) (F j)) ∨ (i = 0 ∧ ps_pic t.1 T ∧ ps_pic t.2 T ∧ ps_st0 T F L)) 65 0 (a4, a5) (by omega)
    (by
      rcases hI with h | h
      · exact Or.inl h
      · exact Or.inr ⟨rfl, h⟩)
    (fun n t h => pk_le 65 65 (fun _ => by
      rcases h with ⟨g, h4, _⟩ | ⟨z, _⟩
      · exact H _ _ h4
      · exact absurd z (by omega)) (fun z => absurd z (by omega)))
    (fun n i t hi h hw => pk_le 65 i (fun z => absurd z (by omega)) (fun _ => by
      rcases h with ⟨g, h4, h5, hg⟩ | ⟨ei, h4, h5, hz, hT⟩
      · refine ps_wait (fun _ => br_f ps_m1neg (H _ _ h4)) (fun v hv _ => br_t (nI_pos' (by omega)) (ps_passN hv hN h4 h5 h6 (fun b4 b5 g4 g5 => nm_r (nI_1 i) (hw (b4, b5) (Or.inl ⟨_, ?_, g5, ?_⟩)))))
        · refine ps_picE g4 (fun j hj => ?_)
          by_cases e : (L v).testBit j = true
          · rw [if_pos e, ps_sub_or (ps_sub_trans (hg v hv) (hcl v j hv hj e))]
          · rw [if_neg e, Nat.or_zero]
        · intro j hj
          refine ps_sub_orI ?_ ?_
          · by_cases e : j = v
            · rw [if_pos e]
              exact ps_sub_0 _
            · rw [if_neg e]
              exact hg j hj
          · by_cases e : (L v).testBit j = true
            · rw [if_pos e]
              exact ps_sub_trans (ps_nw_sub (h5 v hv).1) (ps_sub_trans (hg v hv) (hcl v j hv hj e))
            · rw [if_neg e]
              exact ps_sub_0 _
      · refine ps_wait (fun h0 => ?_) (fun v hv ne => br_t (nI_pos' (by omega)) (ps_passN hv hN h4 h5 h6 (fun b4 b5 g4 g5 => nm_r (nI_1 i) (hw (b4, b5) (Or.inl ⟨_, ?_, g5, ?_⟩)))))
        · obtain ⟨z, z8, nz⟩ := hz
          have e := h0 z z8
          rw [(h5 z z8).2] at e
          exact absurd (ps_nI0 (h5 z z8).1 e) nz
        · have nT : T v ≠ 0 := fun e => ne (by rw [(h5 v hv).2, e]; rfl)
          exact ps_picE g4 (fun j hj => (hT v hv nT).1 j hj)
        · have nT : T v ≠ 0 := fun e => ne (by rw [(h5 v hv).2, e]; rfl)
          intro j hj
          refine ps_sub_orI ?_ ?_
          · by_cases e : j = v
            · rw [if_pos e]
              exact ps_sub_0 _
            · rw [if_neg e, (hT v hv nT).2 j hj e]
              exact ps_sub_0 _
          · by_cases e : (L v).testBit j = true
            · rw [if_pos e, (hT v hv nT).1 j hj, if_pos e]
              exact ps_sub_trans (ps_nw_sub (h5 v hv).1) (ps_sub_r _ _)
            · rw [if_neg e]
              exact ps_sub_0 _))
theorem ps_142S (hS : ∀ K, K < 13 → ps_on b0 b12 K = true → ∃ x y, x < 8 ∧ y < 8 ∧ a2 K = nI x ∧ a3 K = nI y)
    (H : ∀ b4 b5 b6, post (nI (ps_pr b0 b12), k, a1, a2, a3, b4, b5, b6)) : ∃ n, wX_solve_142 post n 0 (nI (ps_pr b0 b12)) k a1 a2 a3 a4 a5 a6 :=
  pk_loop (σ := (Nat → Int32) × (Nat → Int32) × (Nat → Int32)) (fun n i t => wX_solve_142 post n (nI i) (nI (ps_pr b0 b12)) k a1 a2 a3 t.1 t.2.1 t.2.2) (fun _ _ => True) 65 0 (a4, a5, a6) (by omega) trivial
    (fun n t _ => pk_le 65 65 (fun _ => H _ _ _) (fun z => absurd z (by omega)))
    (fun n i t hi _ hw => pk_le 65 i (fun z => absurd z (by omega)) (fun _ => ps_wait (fun _ => br_f ps_m1neg (H _ _ _)) (fun v hv _ => br_t (nI_pos' (by omega)) (ps_passS hv hS (fun b4 b5 b6 => nm_r (nI_1 i) (hw (b4, b5, b6) trivial))))))
theorem ps_1420 {f : Int32} (h5 : ∀ j, j < 8 → a5 j = 0) (H : post (f, k, a1, a2, a3, a4, a5, a6)) : ∃ n, wX_solve_142 post n 0 f k a1 a2 a3 a4 a5 a6 :=
  ⟨0 + 1, pk_le 65 0 (fun z => absurd z (by omega)) (fun _ => ps_wait (fun _ => br_f ps_m1neg H) (fun v hv ne => absurd (h5 v hv) ne))⟩
/-! the statements, one behind another -/
theorem ps_50off {n i : Nat} (hi : i < 13) (h : ps_on b0 b12 i = false) (H : wX_solve_50 post n (nI (i + 1)) (nI (ps_pr b0 b12)) k a1 a2 a3 a4 a5 a6) :
    wX_solve_50 post (n + 1) (nI i) (nI (ps_pr b0 b12)) k a1 a2 a3 a4 a5 a6 :=
  pk_lt 12 i (fun z => absurd z (by omega)) (fun _ => br_t (ps_prF hi h) (br_t (ps_prF hi h) (nm_r (nI_1 i) H)))
theorem ps_50skip {n : Nat} (H : wX_solve_50 post n (nI 12) (nI (ps_pr b0 b12)) k a1 a2 a3 a4 a5 a6) : ∀ m i, 1 ≤ i → i + m = 12 → wX_solve_50 post (n + m) (nI i) (nI (ps_pr b0 b12)) k a1 a2 a3 a4 a5 a6 := by
  intro m
  induction m with
  | zero =>
    intro i _ e
    rw [show i = 12 by omega]
    exact H
  | succ m ih =>
    intro i h1 e
    have h : ps_on b0 b12 i = false := by
      cases z : ps_on b0 b12 i
      · rfl
      · rcases ps_onE z with z | z <;> exact absurd z.1 (by omega)
    exact ps_50off (by omega) h (ih (i + 1) (by omega) (by omega))
theorem ps_50hi {n i c : Nat} (hi : i < 13) (h : ps_on b0 b12 i = true) (hc : 2 ≤ c) (hc4 : c < 4) (e1 : a1 i = nI c)
    (H : wX_solve_50 post n (nI (i + 1)) (nI (ps_pr b0 b12)) k a1 a2 a3 a4 a5 a6) :
    wX_solve_50 post (n + 1) (nI i) (nI (ps_pr b0 b12)) k a1 a2 a3 a4 a5 a6 :=
  pk_lt 12 i (fun z => absurd z (by omega)) (fun _ => br_f (ps_prT hi h) ⟨pk_in i 13 hi, br_f (by rw [ps_at hi e1]; exact nI_ne0 (by omega) (by omega))
    (br_f (ps_prT hi h) ⟨pk_in i 13 hi, br_f (by rw [ps_at hi e1]; exact fun z => absurd ((nI_eq (b := 1) (by omega) (by omega)).mp z) (by omega)) (nm_r (nI_1 i) H)⟩)⟩)
theorem ps_50take {n i x y p g : Nat} (hi : i < 13) (h : ps_on b0 b12 i = true) (e1 : a1 i = nI 0) (e2 : a2 i = nI x) (e3 : a3 i = nI y) (hx : x < 8) (hy : y < 8)
    (hp : p < 256) (hg : g < 256) (e4 : a4 x = nI p) (e5 : a5 x = nI g)
    (H : wX_solve_50 post n (nI (i + 1)) (nI (ps_pr b0 b12)) k a1 a2 a3 (upd a4 x (nI (p ||| 2 ^ y))) (upd a5 x (nI (g ||| ps_nw (2 ^ y) p))) a6) :
    wX_solve_50 post (n + 1) (nI i) (nI (ps_pr b0 b12)) k a1 a2 a3 a4 a5 a6 :=
  pk_lt 12 i (fun z => absurd z (by omega)) (fun _ => br_f (ps_prT hi h) ⟨pk_in i 13 hi, br_t (by rw [ps_at hi e1]; rfl)
    ⟨pk_in i 13 hi, pk_in i 13 hi, ps_point hx (ps_pw y hy) hp hg e4 e5 (nm_r (nI_1 i) H) (ps_at hi e2) (by rw [ps_at hi e3]; exact ps_shl y hy)⟩⟩)
theorem ps_50copy {n i x y : Nat} (hi : i < 13) (h : ps_on b0 b12 i = true) (e1 : a1 i = nI 1) (e2 : a2 i = nI x) (e3 : a3 i = nI y) (hx : x < 8) (hy : y < 8)
    (e6 : a6 y = nI 0) (e4y : a4 y = nI 0) (e4 : a4 x = nI 0) (e5 : a5 x = nI 0)
    (H : wX_solve_50 post n (nI (i + 1)) (nI (ps_pr b0 b12)) k a1 a2 a3 (upd a4 x (nI 0)) (upd a5 x (nI 0)) (upd a6 y (nI (2 ^ x)))) :
    wX_solve_50 post (n + 1) (nI i) (nI (ps_pr b0 b12)) k a1 a2 a3 a4 a5 a6 :=
  pk_lt 12 i (fun z => absurd z (by omega)) (fun _ => br_f (ps_prT hi h) ⟨pk_in i 13 hi, br_f (by rw [ps_at hi e1]; decide)
    (br_f (ps_prT hi h) ⟨pk_in i 13 hi, br_t (by rw [ps_at hi e1]; rfl) ⟨pk_in i 13 hi, pk_in i 13 hi, ps_link0 hy hx e6 e4y e4 e5 (nm_r (nI_1 i) H) (ps_at hi e3) (ps_at hi e2)⟩⟩)⟩)
theorem ps_50end {n : Nat} {f : Int32} (H : ∃ n, wX_solve_142 post n 0 f k a1 a2 a3 a4 a5 a6) : wX_solve_50 post (n + 1) (nI 13) f k a1 a2 a3 a4 a5 a6 :=
  pk_lt 12 13 (fun _ => H) (fun z => absurd z (by omega))
/-! what stands in the slots 0 and 12 -/
def ps_S (b0 b12 : Bool) (c x y z w : Nat) (a1 a2 a3 : Nat → Int32) : Prop :=
  (b0 = true → c < 4 ∧ x < 8 ∧ y < 8 ∧ a1 0 = nI c ∧ a2 0 = nI x ∧ a3 0 = nI y) ∧ (b12 = true → z < 8 ∧ w < 8 ∧ a1 12 = nI 0 ∧ a2 12 = nI z ∧ a3 12 = nI w)
theorem ps_S_S {c x y z w : Nat} (h : ps_S b0 b12 c x y z w a1 a2 a3) : ∀ K, K < 13 → ps_on b0 b12 K = true → ∃ x y, x < 8 ∧ y < 8 ∧ a2 K = nI x ∧ a3 K = nI y := by
  intro K _ e
  rcases ps_onE e with ⟨rfl, eb⟩ | ⟨rfl, eb⟩
  · obtain ⟨_, hx, hy, _, e2, e3⟩ := h.1 eb
    exact ⟨x, y, hx, hy, e2, e3⟩
  · obtain ⟨hx, hy, _, e2, e3⟩ := h.2 eb
    exact ⟨z, w, hx, hy, e2, e3⟩
theorem ps_S_N {c x y z w : Nat} (h : ps_S b0 b12 c x y z w a1 a2 a3) (hc : b0 = true → c < 2) : ∀ K, K < 13 → ps_on b0 b12 K = true → ∃ c, c < 2 ∧ a1 K = nI c := by
  intro K _ e
  rcases ps_onE e with ⟨rfl, eb⟩ | ⟨rfl, eb⟩
  · exact ⟨c, hc eb, (h.1 eb).2.2.2.1⟩
  · exact ⟨0, by omega, (h.2 eb).2.2.1⟩
/-- behind slot 12: points and fresh have what slot 12 takes -/
def ps_T (b12 : Bool) (z w : Nat) (P : Nat → Nat) : Nat → Nat := fun j => P j ||| (if b12 = true ∧ j = z then 2 ^ w else 0)
theorem ps_on12 : ps_on b0 b12 12 = b12 := by cases b0 <;> cases b12 <;> rfl
theorem ps_on0 : ps_on b0 b12 0 = b0 := by cases b0 <;> cases b12 <;> rfl
theorem ps_50tail {c x y z w : Nat} {P : Nat → Nat} (hS : ps_S b0 b12 c x y z w a1 a2 a3) (h4 : ps_pic a4 P) (h5 : ps_pic a5 P)
    (H : ∀ b4 b5, ps_pic b4 (ps_T b12 z w P) → ps_pic b5 (ps_T b12 z w P) → ∃ n, wX_solve_142 post n 0 (nI (ps_pr b0 b12)) k a1 a2 a3 b4 b5 a6) :
    wX_solve_50 post 13 (nI 1) (nI (ps_pr b0 b12)) k a1 a2 a3 a4 a5 a6 := by
  refine ps_50skip (n := 2) ?_ 11 1 (by omega) (by omega)
  cases e : b12
  · subst e
    refine ps_50off (by omega) ps_on12 (ps_50end (H a4 a5 (ps_picE h4 (fun j _ => ?_)) (ps_picE h5 (fun j _ => ?_))))
    · unfold ps_T
      rw [if_neg (fun z => Bool.false_ne_true z.1), Nat.or_zero]
    · unfold ps_T
      rw [if_neg (fun z => Bool.false_ne_true z.1), Nat.or_zero]
  · subst e
    obtain ⟨hz, hw, e1, e2, e3⟩ := hS.2 rfl
    have o : ∀ j, j < 8 → j ≠ z → ps_T true z w P j = P j := fun j _ ne => by
      unfold ps_T
      rw [if_neg (fun q => ne q.2), Nat.or_zero]
    have t : ps_T true z w P z = P z ||| 2 ^ w := by
      unfold ps_T
      rw [if_pos ⟨rfl, rfl⟩]
    refine ps_50take (by omega) ps_on12 e1 e2 e3 hz hw (h4 z hz).1 (h5 z hz).1 (h4 z hz).2 (h5 z hz).2 (ps_50end (H _ _ ?_ ?_))
    · exact ps_picU h4 (ps_or_lt (h4 z hz).1 (ps_pw w hw)) t o
    · rw [ps_or_nw (ps_pw w hw)]
      exact ps_picU h5 (ps_or_lt (h4 z hz).1 (ps_pw w hw)) t o
/-- what the variables point to in the end, unless LOAD or STORE stands beside slot 12 -/
def ps_F (b0 b12 : Bool) (c x y z w : Nat) : Nat → Nat := fun j => ((if b0 = true ∧ c = 0 ∧ j = x then 2 ^ y else 0) ||| (if b12 = true ∧ j = z then 2 ^ w else 0)) ||| (if b0 = true ∧ b12 = true ∧ c = 1 ∧ z = y ∧ j = x then 2 ^ w else 0)
theorem ps_50all {c x y z w : Nat} (hS : ps_S b0 b12 c x y z w a1 a2 a3) (h4 : ps_pic a4 (fun _ => 0)) (h5 : ps_pic a5 (fun _ => 0)) (h6 : ps_pic a6 (fun _ => 0))
    (H : ∀ b4 b5 b6, ((b0 = true → b12 = true → c < 2) → ps_pic b4 (ps_F b0 b12 c x y z w)) → post (nI (ps_pr b0 b12), k, a1, a2, a3, b4, b5, b6)) :
    wX_solve_50 post 14 0 (nI (ps_pr b0 b12)) k a1 a2 a3 a4 a5 a6 := by
  have ht : ∀ i : Nat, Nat.testBit 0 i = true → False := fun i e => by
    rw [Nat.zero_testBit] at e
    exact Bool.false_ne_true e
  cases e0 : b0
  · subst e0
    have eF : ∀ j, j < 8 → ps_F false b12 c x y z w j = ps_T b12 z w (fun _ => 0) j := fun j _ => by
      unfold ps_F ps_T
      rw [if_neg (fun q => Bool.false_ne_true q.1), if_neg (c := false = true ∧ _) (fun q => Bool.false_ne_true q.1), Nat.or_zero]
    refine ps_50off (i := 0) (by omega) ps_on0 (ps_50tail hS h4 h5 (fun b4 b5 g4 g5 => ?_))
    exact ps_142 (T := fun _ => 0) (F := ps_F false b12 c x y z w) (ps_S_N hS (fun q => absurd q Bool.false_ne_true)) h6 (fun v j _ _ q => (ht j q).elim)
      (Or.inl ⟨_, ps_picE g4 eF, ps_picE g5 eF, fun j _ => ps_sub_refl _⟩) (fun c4 c5 q => H c4 c5 _ (fun _ => q))
  · subst e0
    obtain ⟨c4, hx, hy, e1, e2, e3⟩ := hS.1 rfl
    rcases (show c = 0 ∨ c = 1 ∨ 2 ≤ c by omega) with hc | hc | hc
    · subst hc
      have eF : ∀ j, j < 8 → ps_F true b12 0 x y z w j = ps_T b12 z w (fun j => if j = x then 2 ^ y else 0) j := fun j _ => by
        unfold ps_F ps_T
        rw [if_neg (c := true = true ∧ b12 = true ∧ (0 : Nat) = 1 ∧ _) (fun q => absurd q.2.2.1 (by omega)), Nat.or_zero]
        show (if true = true ∧ (0 : Nat) = 0 ∧ j = x then 2 ^ y else 0) ||| _ = (if j = x then 2 ^ y else 0) ||| _
        by_cases ej : j = x
        · rw [if_pos (c := true = true ∧ (0 : Nat) = 0 ∧ j = x) ⟨rfl, rfl, ej⟩, if_pos ej]
        · rw [if_neg (c := true = true ∧ (0 : Nat) = 0 ∧ j = x) (fun q => ej q.2.2), if_neg ej]
      refine ps_50take (i := 0) (p := 0) (g := 0) (by omega) ps_on0 e1 e2 e3 hx hy (by omega) (by omega) (h4 x hx).2 (h5 x hx).2 (ps_50tail (P := fun j => if j = x then 2 ^ y else 0) hS ?_ ?_ (fun b4 b5 g4 g5 => ?_))
      · exact ps_picU h4 (ps_or_lt (by omega) (ps_pw y hy)) (by rw [if_pos rfl, Nat.zero_or]) (fun j _ ne => if_neg ne)
      · rw [ps_or_nw (ps_pw y hy)]
        exact ps_picU h5 (ps_or_lt (by omega) (ps_pw y hy)) (by rw [if_pos rfl, Nat.zero_or]) (fun j _ ne => if_neg ne)
      · exact ps_142 (T := fun _ => 0) (F := ps_F true b12 0 x y z w) (ps_S_N hS (fun _ => by omega)) h6 (fun v j _ _ q => (ht j q).elim)
          (Or.inl ⟨_, ps_picE g4 eF, ps_picE g5 eF, fun j _ => ps_sub_refl _⟩) (fun c4 c5 q => H c4 c5 _ (fun _ => q))
    · subst hc
      refine ps_50copy (i := 0) (by omega) ps_on0 e1 e2 e3 hx hy (h6 y hy).2 (h4 y hy).2 (h4 x hx).2 (h5 x hx).2 (ps_50tail (P := fun _ => 0) hS ?_ ?_ (fun b4 b5 g4 g5 => ?_))
      · exact ps_picU h4 (by omega) rfl (fun j _ _ => rfl)
      · exact ps_picU h5 (by omega) rfl (fun j _ _ => rfl)
      · have g6 : ps_pic (upd a6 y (nI (2 ^ x))) (fun j => if j = y then 2 ^ x else 0) := ps_picU h6 (ps_pw x hx) (if_pos rfl) (fun j _ ne => if_neg ne)
        have bL : ∀ v j, (if v = y then 2 ^ x else 0).testBit j = true → v = y ∧ j = x := fun v j q => by
          by_cases ev : v = y
          · rw [if_pos ev, Nat.testBit_two_pow, decide_eq_true_eq] at q
            exact ⟨ev, q.symm⟩
          · rw [if_neg ev] at q
            exact (ht j q).elim
        have eF : ∀ j, ps_F true b12 1 x y z w j = (if b12 = true ∧ j = z then 2 ^ w else 0) ||| (if b12 = true ∧ z = y ∧ j = x then 2 ^ w else 0) := fun j => by
          unfold ps_F
          rw [if_neg (c := true = true ∧ (1 : Nat) = 0 ∧ _) (fun q => absurd q.2.1 (by omega)), Nat.zero_or]
          by_cases q : b12 = true ∧ z = y ∧ j = x
          · rw [if_pos q, if_pos (c := true = true ∧ b12 = true ∧ (1 : Nat) = 1 ∧ z = y ∧ j = x) ⟨rfl, q.1, rfl, q.2⟩]
          · rw [if_neg q, if_neg (c := true = true ∧ b12 = true ∧ (1 : Nat) = 1 ∧ z = y ∧ j = x) (fun r => q ⟨r.2.1, r.2.2.2⟩)]
        refine ps_142 (T := ps_T b12 z w (fun _ => 0)) (F := ps_F true b12 1 x y z w) (ps_S_N hS (fun _ => by omega)) g6 (fun v j _ _ q => ?_) ?_ (fun c4 c5 q => H c4 c5 _ (fun _ => q))
        · obtain ⟨rfl, rfl⟩ := bL v j q
          rw [eF v, eF j]
          refine ps_sub_orI ?_ ?_
          · by_cases r : b12 = true ∧ v = z
            · rw [if_pos r, if_pos (c := b12 = true ∧ z = v ∧ j = j) ⟨r.1, r.2.symm, rfl⟩]
              exact ps_sub_r _ _
            · rw [if_neg r]
              exact ps_sub_0 _
          · by_cases r : b12 = true ∧ z = v ∧ v = j
            · rw [if_pos r, if_pos (c := b12 = true ∧ z = v ∧ j = j) ⟨r.1, r.2.1, rfl⟩]
              exact ps_sub_r _ _
            · rw [if_neg r]
              exact ps_sub_0 _
        · cases e12 : b12
          · subst e12
            have eF' : ∀ j, j < 8 → ps_F true false 1 x y z w j = ps_T false z w (fun _ => 0) j := fun j _ => by
              rw [eF j]
              unfold ps_T
              rw [if_neg (c := false = true ∧ z = y ∧ j = x) (fun q => Bool.false_ne_true q.1), if_neg (fun q => Bool.false_ne_true q.1)]
            exact Or.inl ⟨_, ps_picE g4 eF', ps_picE g5 eF', fun j _ => ps_sub_refl _⟩
          · subst e12
            obtain ⟨hz, hw, _⟩ := hS.2 rfl
            have tz : ps_T true z w (fun _ => 0) z = 2 ^ w := by
              unfold ps_T
              rw [if_pos ⟨rfl, rfl⟩, Nat.zero_or]
            have tn : ∀ j, j ≠ z → ps_T true z w (fun _ => 0) j = 0 := fun j ne => by
              unfold ps_T
              rw [if_neg (fun q => ne q.2), Nat.zero_or]
            refine Or.inr ⟨g4, g5, ⟨z, hz, by rw [tz]; exact Nat.ne_of_gt (Nat.two_pow_pos w)⟩, fun v hv nv => ?_⟩
            have ev : v = z := by
              by_cases q : v = z
              · exact q
              · exact absurd (tn v q) nv
            subst ev
            refine ⟨fun j hj => ?_, fun j _ ne => tn j ne⟩
            rw [eF j, tz]
            unfold ps_T
            rw [Nat.zero_or]
            congr 1
            by_cases q : v = y ∧ j = x
            · rw [if_pos ⟨rfl, q⟩, if_pos]
              show (if v = y then 2 ^ x else 0).testBit j = true
              rw [if_pos q.1, q.2]
              exact Nat.testBit_two_pow_self
            · rw [if_neg (fun r => q r.2), if_neg (fun r => q (bL v j r))]
    · have hneq : ∀ j, ps_F true b12 c x y z w j = (if b12 = true ∧ j = z then 2 ^ w else 0) := fun j => by
        unfold ps_F
        rw [if_neg (fun q => absurd q.2.1 (by omega)), Nat.zero_or, if_neg (c := true = true ∧ b12 = true ∧ c = 1 ∧ _) (fun q => absurd q.2.2.1 (by omega)), Nat.or_zero]
      refine ps_50hi (i := 0) (by omega) ps_on0 hc c4 e1 (ps_50tail hS h4 h5 (fun b4 b5 g4 g5 => ?_))
      cases e12 : b12
      · subst e12
        have t0 : ∀ j, ps_T false z w (fun _ => 0) j = 0 := fun j => by
          unfold ps_T
          rw [if_neg (fun q => Bool.false_ne_true q.1), Nat.or_zero]
        refine ps_1420 (fun j hj => ?_) (H _ _ _ (fun _ => ps_picE g4 (fun j hj => ?_)))
        · rw [(g5 j hj).2, t0 j]
          rfl
        · rw [hneq j, t0 j, if_neg (fun q => Bool.false_ne_true q.1)]
      · subst e12
        exact ps_142S (ps_S_S hS) (fun b4 b5 b6 => H b4 b5 b6 (fun q => absurd (q rfl rfl) (by omega)))
/-! solve -/
theorem ps_15 {f : Int32} (H : ∀ b4 b5 b6, ps_pic b4 (fun _ => 0) → ps_pic b5 (fun _ => 0) → ps_pic b6 (fun _ => 0) → ∃ n, wX_solve_50 post n 0 f k a1 a2 a3 b4 b5 b6) :
    ∃ n, wX_solve_15 post f k n 0 a1 a2 a3 a4 a5 a6 :=
  pk_loop (σ := (Nat → Int32) × (Nat → Int32) × (Nat → Int32)) (fun n i t => wX_solve_15 post f k n (nI i) a1 a2 a3 t.1 t.2.1 t.2.2)
    (fun i t => (∀ j, j < i → t.1 j = 0) ∧ (∀ j, j < i → t.2.1 j = 0) ∧ (∀ j, j < i → t.2.2 j = 0)) 8 0 (a4, a5, a6) (by omega) ⟨lt_0, lt_0, lt_0⟩
    (fun n t h => pk_le 8 8 (fun _ => H _ _ _ (fun j hj => ⟨Nat.zero_lt_succ 255, h.1 j hj⟩) (fun j hj => ⟨Nat.zero_lt_succ 255, h.2.1 j hj⟩) (fun j hj => ⟨Nat.zero_lt_succ 255, h.2.2 j hj⟩)) (fun z => absurd z (by omega)))
    (fun n i t hi h hw => pk_le 8 i (fun z => absurd z (by omega)) (fun _ => by
      have q : ∀ a : Nat → Int32, (∀ j, j < i → a j = 0) → ∀ j, j < i + 1 → upd a (nI i).toNatClampNeg 0 j = 0 := fun a ha j hj => by
        rw [nI_clamp (by omega)]
        by_cases e : j = i
        · rw [e, pk_us]
        · rw [pk_un e]
          exact ha j (by omega)
      exact ⟨pk_in i 8 hi, nm_e ⟨pk_in i 8 hi, nm_e ⟨pk_in i 8 hi, nm_e (nm_r (nI_1 i) (hw (_, _, _) ⟨q _ h.1, q _ h.2.1, q _ h.2.2⟩))⟩⟩⟩))
theorem ps_core {c x y z w : Nat} (hS : ps_S b0 b12 c x y z w a1 a2 a3)
    (H : ∀ b4 b5 b6, ((b0 = true → b12 = true → c < 2) → ps_pic b4 (ps_F b0 b12 c x y z w)) → post (nI (ps_pr b0 b12), 1, a1, a2, a3, b4, b5, b6)) :
    wpX_solve post (nI (ps_pr b0 b12), 0, a1, a2, a3, a4, a5, a6) :=
  br_t rfl (ps_15 (fun b4 b5 b6 h4 h5 h6 => ⟨14, ps_50all hS h4 h5 h6 H⟩))
end
end
section
/-! total: any array -/
def ps_row (v s : Int32) : Nat → Int32
  | 0 => s
  | n + 1 => ps_row v s n + ((v >>> (nI n &&& 31)) &&& 1)
def ps_tt (a : Nat → Int32) : Nat → Int32
  | 0 => 0
  | n + 1 => ps_row (a n) (ps_tt a n) 8
section
variable {f k : Int32} {a1 a2 a3 a4 a5 a6 : Nat → Int32} {post : Int32 → St2 → Prop}
theorem ps_t16 {J : Int32 → Int32 → Prop} {i : Nat} {s : Int32} (hi : i < 8) (H : J (ps_row (a4 i) s 8) (nI (i + 1))) : ∃ n, wX_total_16 post J (nI i) f k a1 a2 a3 a4 a5 a6 n s 0 :=
  pk_loop (σ := Int32) (fun n m t => wX_total_16 post J (nI i) f k a1 a2 a3 a4 a5 a6 n t (nI m)) (fun m t => t = ps_row (a4 i) s m) 8 0 s (by omega) rfl
    (fun n t h => pk_le 8 8 (fun _ => nm_r (nI_1 i) (by rw [h]; exact H)) (fun z => absurd z (by omega)))
    (fun n m t hm h hw => pk_le 8 m (fun z => absurd z (by omega)) (fun _ => ⟨pk_in i 8 hi, nm_r (e' := ps_row (a4 i) s (m + 1)) (by rw [nI_clamp (by omega), h]; rfl) (nm_r (nI_1 m) (hw _ rfl))⟩))
theorem ps_t8 (H : post (ps_tt a4 8) (f, k, a1, a2, a3, a4, a5, a6)) : ∃ n, wX_total_8 post f k a1 a2 a3 a4 a5 a6 n 0 0 :=
  pk_loop (σ := Int32) (fun n i t => wX_total_8 post f k a1 a2 a3 a4 a5 a6 n t (nI i)) (fun i t => t = ps_tt a4 i) 8 0 0 (by omega) rfl
    (fun n t h => pk_le 8 8 (fun _ => by rw [h]; exact H) (fun z => absurd z (by omega)))
    (fun n i t hi h hw => pk_le 8 i (fun z => absurd z (by omega)) (fun _ => ps_t16 hi (hw _ (by rw [h]; rfl))))
end
/-! total of a picture -/
def ps_cn (m : Nat) : Nat → Nat
  | 0 => 0
  | n + 1 => ps_cn m n + (m.testBit n).toNat
def ps_tn (F : Nat → Nat) : Nat → Nat
  | 0 => 0
  | n + 1 => ps_tn F n + ps_cn (F n) 8
theorem ps_row_n {m s : Nat} (hm : m < 256) : ∀ n, n ≤ 8 → ps_row (nI m) (nI s) n = nI (s + ps_cn m n) := by
  intro n
  induction n with
  | zero => exact fun _ => rfl
  | succ n ih =>
    intro h
    show ps_row (nI m) (nI s) n + ((nI m >>> (nI n &&& 31)) &&& 1) = nI (s + (ps_cn m n + (m.testBit n).toNat))
    rw [ih (by omega), ps_bit m hm n (by omega), nI_add, Nat.add_assoc]
theorem ps_tt_n {a : Nat → Int32} {F : Nat → Nat} (h : ps_pic a F) : ∀ n, n ≤ 8 → ps_tt a n = nI (ps_tn F n) := by
  intro n
  induction n with
  | zero => exact fun _ => rfl
  | succ n ih =>
    intro hn
    show ps_row (a n) (ps_tt a n) 8 = nI (ps_tn F n + ps_cn (F n) 8)
    rw [ih (by omega), (h n (by omega)).2, ps_row_n (h n (by omega)).1 8 (by omega)]
theorem ps_tn_E {F G : Nat → Nat} : ∀ n, (∀ j, j < n → F j = G j) → ps_tn F n = ps_tn G n := by
  intro n
  induction n with
  | zero => exact fun _ => rfl
  | succ n ih =>
    intro h
    show ps_tn F n + ps_cn (F n) 8 = ps_tn G n + ps_cn (G n) 8
    rw [ih (fun j hj => h j (by omega)), h n (by omega)]
theorem ps_tn0 : ps_tn (fun _ => 0) 8 = 0 := by decide +kernel
def ps_G1 (x y : Nat) : Nat → Nat := fun j => if j = x then 2 ^ y else 0
def ps_G2 (x y z w : Nat) : Nat → Nat := fun j => (if j = x then 2 ^ y else 0) ||| (if j = z then 2 ^ w else 0)
def ps_G3 (x y z w : Nat) : Nat → Nat := fun j => (if j = z then 2 ^ w else 0) ||| (if z = y ∧ j = x then 2 ^ w else 0)
theorem ps_tn1 : ∀ x, x < 8 → ∀ y, y < 8 → ps_tn (ps_G1 x y) 8 = 1 := by decide +kernel
theorem ps_tn2 : ∀ x, x < 8 → ∀ y, y < 8 → ∀ z, z < 8 → ∀ w, w < 8 → ps_tn (ps_G2 x y z w) 8 = if z = x ∧ w = y then 1 else 2 := by decide +kernel
theorem ps_tn3 : ∀ x, x < 8 → ∀ y, y < 8 → ∀ z, z < 8 → ∀ w, w < 8 → ps_tn (ps_G3 x y z w) 8 = if z = y ∧ x ≠ y then 2 else 1 := by decide +kernel
/-! total over slot 0 alone -/
def ps_G (b0 : Bool) (c x y : Nat) : Nat → Nat := fun j => if b0 = true ∧ c = 0 ∧ j = x then 2 ^ y else 0
theorem ps_GF {b0 : Bool} {c x y z w j : Nat} : ps_G b0 c x y j = ps_F b0 false c x y z w j := by
  unfold ps_G ps_F
  rw [if_neg (c := false = true ∧ j = z) (fun q => Bool.false_ne_true q.1), if_neg (c := b0 = true ∧ false = true ∧ _) (fun q => Bool.false_ne_true q.2.1), Nat.or_zero, Nat.or_zero]
def ps_t0 (b0 : Bool) (c : Nat) : Nat := if b0 = true ∧ c = 0 then 1 else 0
theorem ps_tnG {b0 : Bool} {c x y : Nat} (h : b0 = true → x < 8 ∧ y < 8) : ps_tn (ps_G b0 c x y) 8 = ps_t0 b0 c := by
  unfold ps_t0
  by_cases q : b0 = true ∧ c = 0
  · rw [if_pos q, ← ps_tn1 x (h q.1).1 y (h q.1).2]
    refine ps_tn_E 8 (fun j _ => ?_)
    unfold ps_G ps_G1
    by_cases e : j = x
    · rw [if_pos ⟨q.1, q.2, e⟩, if_pos e]
    · rw [if_neg (fun r => e r.2.2), if_neg e]
  · rw [if_neg q, ← ps_tn0]
    refine ps_tn_E 8 (fun j _ => ?_)
    unfold ps_G
    rw [if_neg (fun r => q ⟨r.1, r.2.1⟩)]
/-- total over the slots 0 and 12 -/
def ps_t1 (b0 : Bool) (c x y z w : Nat) : Nat := if b0 = true ∧ c = 0 then (if z = x ∧ w = y then 1 else 2) else if b0 = true ∧ c = 1 ∧ z = y ∧ x ≠ y then 2 else 1
theorem ps_tnF {b0 : Bool} {c x y z w : Nat} (h : b0 = true → x < 8 ∧ y < 8) (hz : z < 8) (hw : w < 8) : ps_tn (ps_F b0 true c x y z w) 8 = ps_t1 b0 c x y z w := by
  unfold ps_t1
  by_cases q : b0 = true ∧ c = 0
  · obtain ⟨rfl, rfl⟩ := q
    rw [if_pos ⟨rfl, rfl⟩, ← ps_tn2 x (h rfl).1 y (h rfl).2 z hz w hw]
    refine ps_tn_E 8 (fun j _ => ?_)
    unfold ps_F ps_G2
    rw [if_neg (c := true = true ∧ true = true ∧ (0 : Nat) = 1 ∧ _) (fun r => absurd r.2.2.1 (by omega)), Nat.or_zero]
    congr 1
    · by_cases e : j = x
      · rw [if_pos ⟨rfl, rfl, e⟩, if_pos e]
      · rw [if_neg (fun r => e r.2.2), if_neg e]
    · by_cases e : j = z
      · rw [if_pos ⟨rfl, e⟩, if_pos e]
      · rw [if_neg (fun r => e r.2), if_neg e]
  · rw [if_neg q]
    by_cases p : b0 = true ∧ c = 1
    · obtain ⟨rfl, rfl⟩ := p
      have e3 := ps_tn3 x (h rfl).1 y (h rfl).2 z hz w hw
      have e4 : (if true = true ∧ 1 = 1 ∧ z = y ∧ x ≠ y then 2 else 1) = (if z = y ∧ x ≠ y then 2 else 1) := by
        by_cases r : z = y ∧ x ≠ y
        · rw [if_pos r, if_pos ⟨rfl, rfl, r⟩]
        · rw [if_neg r, if_neg (fun t => r t.2.2)]
      rw [e4, ← e3]
      refine ps_tn_E 8 (fun j _ => ?_)
      unfold ps_F ps_G3
      rw [if_neg (c := true = true ∧ (1 : Nat) = 0 ∧ _) (fun r => absurd r.2.1 (by omega)), Nat.zero_or]
      congr 1
      · by_cases e : j = z
        · rw [if_pos ⟨rfl, e⟩, if_pos e]
        · rw [if_neg (fun r => e r.2), if_neg e]
      · by_cases e : z = y ∧ j = x
        · rw [if_pos ⟨rfl, rfl, rfl, e⟩, if_pos e]
        · rw [if_neg (fun r => e r.2.2.2), if_neg e]
    · rw [if_neg (fun r => p ⟨r.1, r.2.1⟩), ← ps_tn1 z hz w hw]
      refine ps_tn_E 8 (fun j _ => ?_)
      unfold ps_F ps_G1
      rw [if_neg (c := b0 = true ∧ c = 0 ∧ _) (fun r => q ⟨r.1, r.2.1⟩), Nat.zero_or, if_neg (c := b0 = true ∧ true = true ∧ c = 1 ∧ _) (fun r => p ⟨r.1, r.2.2.1⟩), Nat.or_zero]
      by_cases e : j = z
      · rw [if_pos ⟨rfl, e⟩, if_pos e]
      · rw [if_neg (fun r => e r.2), if_neg e]
end
section
/-! small conditions -/
def ps_V (p : Int32) : Prop := ∃ j : Nat, j < 8 ∧ p = nI j
theorem ps_V_neg {p : Int32} (h : p < 0) : ¬ ps_V p := by
  rintro ⟨j, hj, rfl⟩
  exact nI_pos (by omega) h
theorem ps_V_big {p : Int32} (h : nI 8 ≤ p) : ¬ ps_V p := by
  rintro ⟨j, hj, rfl⟩
  exact nI_ge hj (by decide) h
theorem ps_isv {post : Int32 → Prop} {p : Int32} (H1 : ∀ j, j < 8 → p = nI j → post 1) (H0 : ¬ ps_V p → post 0) : wpX_isVariable post () p := by
  rcases pk_ix p (n := 8) (by omega) with h | h | ⟨j, hj, e⟩
  · exact br_t h (H0 (ps_V_neg h))
  · exact br_c (fun q => H0 (ps_V_neg q)) (fun _ => br_t h (H0 (ps_V_big h)))
  · subst e
    exact br_f (nI_pos (by omega)) (br_f (nI_ge (b := 8) hj (by decide)) (H1 j hj rfl))
def ps_good (p0 p1 p2 : Int32) : Prop := (∃ c : Nat, c < 4 ∧ p0 = nI c) ∧ ps_V p1 ∧ ps_V p2
theorem ps_ok {post : Int32 → Prop} {p0 p1 p2 : Int32} (H1 : ∀ c x y, c < 4 → x < 8 → y < 8 → p0 = nI c → p1 = nI x → p2 = nI y → post 1) (H0 : ¬ ps_good p0 p1 p2 → post 0) : wpX_statementOk post () p0 p1 p2 := by
  rcases pk_ix p0 (n := 4) (by omega) with h | h | ⟨c, hc, e⟩
  · refine br_t h (H0 ?_)
    rintro ⟨⟨c, hc, rfl⟩, _⟩
    exact nI_pos (by omega) h
  · have n : ¬ ps_good p0 p1 p2 := by
      rintro ⟨⟨c, hc, rfl⟩, _⟩
      exact nI_ge hc (by decide) h
    refine br_c (fun _ => H0 n) (fun h0 => ?_)
    obtain ⟨j, hj, rfl⟩ := nI_of h0
    have h4 : 4 ≤ j := (nI_leI (by omega) hj).mp h
    exact br_t (nI_lt (a := 3) (by omega) hj) (H0 n)
  · subst e
    refine br_f (nI_pos (by omega)) (br_f (nI_nlt (a := 3) (by omega) (by decide)) ?_)
    exact ps_isv (fun x hx ex => br_f ps_ne10 (ps_isv (fun y hy ey => br_f ps_ne10 (H1 c x y hc hx hy rfl ex ey)) (fun n => br_t rfl (H0 (fun g => n g.2.2))))) (fun n => br_t rfl (H0 (fun g => n g.2.1)))
theorem ps_or0 (s : Nat) : nI s ||| 0 = nI s := by
  show nI s ||| nI 0 = nI s
  rw [ps_or, Nat.or_zero]
section
variable {k : Int32} {a1 a2 a3 a4 a5 a6 : Nat → Int32} {b0 : Bool} {c x y : Nat}
theorem ps_has {post : Int32 → Prop} {b12 : Bool} {i : Nat} (hi : i < 12) (H0 : ps_on b0 b12 i = false → post 0) (H1 : ps_on b0 b12 i = true → post 1) {I : Int32} (eI : I = nI i) : wpX_has post (nI (ps_pr b0 b12), k, a1, a2, a3, a4, a5, a6) I := by
  subst eI
  refine br_f (nI_pos (by omega)) (br_f (nI_ge (b := 12) hi (by decide)) ?_)
  cases e : ps_on b0 b12 i
  · exact br_t (ps_prF (by omega) e) (H0 e)
  · exact br_f (ps_prT (by omega) e) (H1 e)
theorem ps_write {post : St2 → Prop} {f f' : Int32} {i : Nat} (hi : i < 13) (hc : c < 8) (hx : x < 8) (hy : y < 8) (ef : f ||| ((1 : Int32) <<< (nI i &&& 31)) = f')
    (H : post (f', 0, upd a1 i (nI c), upd a2 i (nI x), upd a3 i (nI y), a4, a5, a6)) {I P0 P1 P2 : Int32} (eI : I = nI i) (e0 : P0 = nI c) (e1 : P1 = nI x) (e2 : P2 = nI y) :
    wpX_write post (f, k, a1, a2, a3, a4, a5, a6) I P0 P1 P2 := by
  subst eI e0 e1 e2
  unfold wpX_write
  dsimp only
  rw [nI_clamp (show i < 2 ^ 31 by omega), ps_n8 c hc, ps_n8 x hx, ps_n8 y hy]
  exact ⟨pk_in i 13 hi, nm_e ⟨pk_in i 13 hi, nm_e ⟨pk_in i 13 hi, nm_e (nm_r ef H)⟩⟩⟩
/-! between two calls -/
def ps_K (b0 : Bool) (c x y : Nat) (k : Int32) (a1 a2 a3 a4 : Nat → Int32) : Prop := ps_S b0 false c x y 0 0 a1 a2 a3 ∧ (k = 0 ∨ (k = 1 ∧ ps_pic a4 (ps_G b0 c x y)))
theorem ps_K1 (h : ps_K b0 c x y k a1 a2 a3 a4) {b4 : Nat → Int32} (g : ps_pic b4 (ps_G b0 c x y)) : ps_K b0 c x y 1 a1 a2 a3 b4 := ⟨h.1, Or.inr ⟨rfl, g⟩⟩
theorem ps_solve0 {post : St2 → Prop} (h : ps_K b0 c x y k a1 a2 a3 a4) (H : ∀ b4 b5 b6, ps_pic b4 (ps_G b0 c x y) → post (nI (ps_pr b0 false), 1, a1, a2, a3, b4, b5, b6)) :
    wpX_solve post (nI (ps_pr b0 false), k, a1, a2, a3, a4, a5, a6) := by
  rcases h with ⟨hS, e | ⟨e, g⟩⟩
  · subst e
    exact ps_core hS (fun b4 b5 b6 q => H b4 b5 b6 (ps_picE (q (fun _ z => absurd z Bool.false_ne_true)) (fun j _ => ps_GF)))
  · subst e
    exact br_f ps_ne10 (H _ _ _ g)
theorem ps_total0 {post : Int32 → St2 → Prop} (h : ps_K b0 c x y k a1 a2 a3 a4) (H : ∀ b4 b5 b6, ps_pic b4 (ps_G b0 c x y) → post (nI (ps_t0 b0 c)) (nI (ps_pr b0 false), 1, a1, a2, a3, b4, b5, b6)) :
    wpX_total post (nI (ps_pr b0 false), k, a1, a2, a3, a4, a5, a6) :=
  ps_solve0 h (fun b4 b5 b6 g => ps_t8 (by
    rw [ps_tt_n g 8 (by omega), ps_tnG (fun e => ⟨(h.1.1 e).2.1, (h.1.1 e).2.2.1⟩)]
    exact H _ _ _ g))
theorem ps_total1 {post : Int32 → St2 → Prop} {z w : Nat} (hS : ps_S b0 true c x y z w a1 a2 a3)
    (H : ∀ r b4 b5 b6, ((b0 = true → c < 2) → r = nI (ps_t1 b0 c x y z w)) → post r (nI (ps_pr b0 true), 1, a1, a2, a3, b4, b5, b6)) :
    wpX_total post (nI (ps_pr b0 true), 0, a1, a2, a3, a4, a5, a6) :=
  ps_core hS (fun b4 b5 b6 q => ps_t8 (H _ _ _ _ (fun hc => by
    rw [ps_tt_n (q (fun e _ => hc e)) 8 (by omega), ps_tnF (fun e => ⟨(hS.1 e).2.1, (hS.1 e).2.2.1⟩) (hS.2 rfl).1 (hS.2 rfl).2.1])))
/-! add, to nothing -/
theorem ps_add {post : Int32 → St2 → Prop} {p0 p1 p2 : Int32}
    (Hg : ∀ c x y, p0 = nI c → p1 = nI x → p2 = nI y → ∀ b1 b2 b3, ps_K true c x y 0 b1 b2 b3 a4 → post 0 (nI (ps_pr true false), 0, b1, b2, b3, a4, a5, a6))
    (Hb : ¬ ps_good p0 p1 p2 → post (-1) (nI (ps_pr false false), k, a1, a2, a3, a4, a5, a6)) : wpX_add post (nI (ps_pr false false), k, a1, a2, a3, a4, a5, a6) p0 p1 p2 := by
  unfold wpX_add
  exact ps_ok (fun c x y hc hx hy e0 e1 e2 => br_f ps_ne10 ⟨0 + 1, pk_le 12 0 (fun z => absurd z (by omega)) (fun _ =>
    ps_has (i := 0) (by omega) (fun _ => br_t rfl (ps_write (i := 0) (f' := nI (ps_pr true false)) (by omega) (by omega) hx hy (by decide +kernel)
      (Hg c x y e0 e1 e2 _ _ _ ⟨⟨fun _ => ⟨hc, hx, hy, pk_us, pk_us, pk_us⟩, fun z => absurd z Bool.false_ne_true⟩, Or.inl rfl⟩) rfl e0 e1 e2)) (fun z => by
        rw [ps_on0] at z
        exact absurd z Bool.false_ne_true) rfl)⟩) (fun n => br_t rfl (Hb n))
/-! pointsTo -/
theorem ps_pointsTo {post : Int32 → St2 → Prop} {p : Int32} (h : ps_K b0 c x y k a1 a2 a3 a4)
    (H : ∀ r k' b4 b5 b6, ps_K b0 c x y k' a1 a2 a3 b4 → ((∃ z, z < 8 ∧ p = nI z ∧ r = nI (ps_G b0 c x y z)) ∨ (¬ ps_V p ∧ r = 0)) → post r (nI (ps_pr b0 false), k', a1, a2, a3, b4, b5, b6)) :
    wpX_pointsTo post (nI (ps_pr b0 false), k, a1, a2, a3, a4, a5, a6) p := by
  unfold wpX_pointsTo
  exact ps_isv (fun j hj e => br_f ps_ne10 (ps_solve0 h (fun b4 b5 b6 g => ⟨pk_in j 8 hj e, H _ _ _ _ _ (ps_K1 h g) (Or.inl ⟨j, hj, e, by
    rw [e, nI_clamp (by omega)]
    exact (g j hj).2⟩)⟩))) (fun n => br_t rfl (H 0 k a4 a5 a6 h (Or.inr ⟨n, rfl⟩)))
/-! gain -/
theorem ps_S12 {z w : Nat} (h : ps_S b0 false c x y 0 0 a1 a2 a3) (hz : z < 8) (hw : w < 8) : ps_S b0 true c x y z w (upd a1 12 (nI 0)) (upd a2 12 (nI z)) (upd a3 12 (nI w)) := by
  refine ⟨fun e => ?_, fun _ => ⟨hz, hw, pk_us, pk_us, pk_us⟩⟩
  obtain ⟨h1, h2, h3, h4, h5, h6⟩ := h.1 e
  exact ⟨h1, h2, h3, by rw [pk_un (by omega)]; exact h4, by rw [pk_un (by omega)]; exact h5, by rw [pk_un (by omega)]; exact h6⟩
theorem ps_w12 : ∀ b0 : Bool, nI (ps_pr b0 false) ||| ((1 : Int32) <<< (nI 12 &&& 31)) = nI (ps_pr b0 true) := by decide +kernel
theorem ps_u12 : ∀ b0 : Bool, nI (ps_pr b0 true) &&& (-4097) = nI (ps_pr b0 false) := by decide +kernel
def ps_gs (b0 : Bool) (c x y : Nat) (p q r : Int32) : Prop := (¬ (ps_V p ∧ ps_V q) ∧ r = -1) ∨ ∃ z w, z < 8 ∧ w < 8 ∧ p = nI z ∧ q = nI w ∧ ((b0 = true → c < 2) → r = nI (ps_t1 b0 c x y z w) - nI (ps_t0 b0 c))
theorem ps_gain {post : Int32 → St2 → Prop} {p q : Int32} (h : ps_K b0 c x y k a1 a2 a3 a4)
    (H : ∀ r k' b1 b2 b3 b4 b5 b6, ps_K b0 c x y k' b1 b2 b3 b4 → ps_gs b0 c x y p q r → post r (nI (ps_pr b0 false), k', b1, b2, b3, b4, b5, b6)) :
    wpX_gain post (nI (ps_pr b0 false), k, a1, a2, a3, a4, a5, a6) 0 p q := by
  unfold wpX_gain
  exact ps_ok (fun c' z w _ hz hw _ ez ew => br_f ps_ne10 (ps_total0 h (fun b4 b5 b6 g => ps_write (i := 12) (c := 0) (x := z) (y := w) (f' := nI (ps_pr b0 true)) (by omega) (by omega) hz hw (ps_w12 b0)
    (ps_total1 (ps_S12 h.1 hz hw) (fun r c4 c5 c6 hr => nm_r (ps_u12 b0) (H _ 0 _ _ _ c4 c5 c6 ⟨⟨(ps_S12 h.1 hz hw).1, fun z => absurd z Bool.false_ne_true⟩, Or.inl rfl⟩ (Or.inr ⟨z, w, hz, hw, ez, ew, fun hc => by rw [hr hc]⟩)))) rfl rfl ez ew)))
    (fun n => br_t rfl (H (-1) k a1 a2 a3 a4 a5 a6 h (Or.inl ⟨fun g => n ⟨⟨0, by omega, rfl⟩, g⟩, rfl⟩)))
/-! redundant -/
theorem ps_r1 : nI (ps_pr true false) &&& (((1 : Int32) <<< ((0 : Int32) &&& 31)) ^^^ (-1)) = nI (ps_pr false false) := by decide +kernel
theorem ps_r2 : nI (ps_pr false false) ||| ((1 : Int32) <<< ((0 : Int32) &&& 31)) = nI (ps_pr true false) := by decide +kernel
theorem ps_redundant {post : Int32 → St2 → Prop} (h : ps_K b0 c x y k a1 a2 a3 a4)
    (H : ∀ r k' b4 b5 b6, ps_K b0 c x y k' a1 a2 a3 b4 → ((b0 = true ∧ c ≠ 0 → r = 1) ∧ (¬ (b0 = true ∧ c ≠ 0) → r = 0)) → post r (nI (ps_pr b0 false), k', a1, a2, a3, b4, b5, b6)) :
    wpX_redundant post (nI (ps_pr b0 false), k, a1, a2, a3, a4, a5, a6) 0 := by
  unfold wpX_redundant
  cases e : b0
  · subst e
    exact ps_has (i := 0) (by omega) (fun _ => br_t rfl (H 0 k a4 a5 a6 h ⟨fun q => absurd q.1 Bool.false_ne_true, fun _ => rfl⟩)) (fun z => by
      rw [ps_on0] at z
      exact absurd z Bool.false_ne_true) rfl
  · subst e
    have hK : ∀ b4, ps_K false 0 0 0 0 a1 a2 a3 b4 := fun b4 => ⟨⟨fun z => absurd z Bool.false_ne_true, fun z => absurd z Bool.false_ne_true⟩, Or.inl rfl⟩
    refine ps_has (i := 0) (by omega) (fun z => ?_) (fun _ => br_f ps_ne10 (ps_total0 h (fun b4 b5 b6 g => nm_r ps_r1 (ps_total0 (hK b4) (fun c4 c5 c6 g' => nm_r ps_r2 ?_))))) rfl
    · rw [ps_on0] at z
      exact absurd z.symm Bool.false_ne_true
    · by_cases hc : c = 0
      · exact br_f (by rw [hc]; decide) (H 0 0 c4 c5 c6 ⟨h.1, Or.inl rfl⟩ ⟨fun q => absurd hc q.2, fun _ => rfl⟩)
      · have e0 : ps_t0 true c = 0 := if_neg (fun q => hc q.2)
        exact br_t (by rw [e0]; rfl) (H 1 0 c4 c5 c6 ⟨h.1, Or.inl rfl⟩ ⟨fun _ => rfl, fun q => absurd ⟨rfl, hc⟩ q⟩)
/-! reach -/
theorem ps_r31 {post : Int32 → St2 → Prop} {J : Int32 → Int32 → Prop} {f : Int32} {F : Nat → Nat} {s r : Nat} (g : ps_pic a4 F) (hs : s < 256) (hcl : ∀ j, j < 8 → s.testBit j = true → ps_sub (F j) s) (H : J (nI s) (nI (r + 1))) :
    ∃ n, wX_reach_31 post J (nI r) f k a1 a2 a3 a4 a5 a6 n (nI s) 0 :=
  pk_loop (σ := Unit) (fun n m _ => wX_reach_31 post J (nI r) f k a1 a2 a3 a4 a5 a6 n (nI s) (nI m)) (fun _ _ => True) 8 0 () (by omega) trivial
    (fun n t h => pk_le 8 8 (fun _ => nm_r (nI_1 r) H) (fun z => absurd z (by omega)))
    (fun n m t hm _ hw => pk_le 8 m (fun z => absurd z (by omega)) (fun _ => ps_in hs hm (fun _ => br_t rfl (nm_r (ps_or0 s) (nm_r (nI_1 m) (hw () trivial))))
      (fun e => br_f ps_ne10 ⟨pk_in m 8 hm, nm_r (e' := nI s) (by rw [nI_clamp (by omega), (g m hm).2, ps_or, ps_sub_or (hcl m hm e)]) (nm_r (nI_1 m) (hw () trivial))⟩) rfl rfl))
theorem ps_r22 {post : Int32 → St2 → Prop} {f : Int32} {F : Nat → Nat} {s : Nat} (g : ps_pic a4 F) (hs : s < 256) (hcl : ∀ j, j < 8 → s.testBit j = true → ps_sub (F j) s) (H : post (nI s) (f, k, a1, a2, a3, a4, a5, a6)) :
    ∃ n, wX_reach_22 post f k a1 a2 a3 a4 a5 a6 n (nI s) 0 :=
  pk_loop (σ := Unit) (fun n r _ => wX_reach_22 post f k a1 a2 a3 a4 a5 a6 n (nI s) (nI r)) (fun _ _ => True) 8 0 () (by omega) trivial
    (fun n t h => pk_le 8 8 (fun _ => H) (fun z => absurd z (by omega)))
    (fun n r t hr _ hw => pk_le 8 r (fun z => absurd z (by omega)) (fun _ => ps_r31 g hs hcl (hw () trivial)))
theorem ps_Gcl {i j : Nat} (e : (ps_G b0 c x y i).testBit j = true) : ps_sub (ps_G b0 c x y j) (ps_G b0 c x y i) := by
  unfold ps_G at *
  by_cases q : b0 = true ∧ c = 0 ∧ i = x
  · rw [if_pos q]
    by_cases q' : b0 = true ∧ c = 0 ∧ j = x
    · rw [if_pos q']
      exact ps_sub_refl _
    · rw [if_neg q']
      exact ps_sub_0 _
  · rw [if_neg q, Nat.zero_testBit] at e
    exact absurd e Bool.false_ne_true
theorem ps_reach {post : Int32 → St2 → Prop} {i : Nat} (hi : i < 8) (h : ps_K b0 c x y k a1 a2 a3 a4)
    (H : ∀ b4 b5 b6, ps_pic b4 (ps_G b0 c x y) → post (nI (ps_G b0 c x y i)) (nI (ps_pr b0 false), 1, a1, a2, a3, b4, b5, b6)) :
    wpX_reach post (nI (ps_pr b0 false), k, a1, a2, a3, a4, a5, a6) (nI i) := by
  unfold wpX_reach
  exact ps_isv (fun j hj e => br_f ps_ne10 (ps_solve0 h (fun b4 b5 b6 g => ⟨pk_in i 8 hi, nm_r (e' := nI (ps_G b0 c x y i)) (by
    rw [nI_clamp (by omega)]
    exact (g i hi).2) (ps_r22 g (g i hi).1 (fun j _ e => ps_Gcl e) (H _ _ _ g))⟩))) (fun n => absurd ⟨i, hi, rfl⟩ n)
/-! cyclic -/
def ps_cy (b0 : Bool) (c x y i : Nat) : Nat := if b0 = true ∧ c = 0 ∧ x = y ∧ x < i then 2 ^ x else 0
theorem ps_cyF {i : Nat} (e : (ps_G b0 c x y i).testBit i = false) : ps_cy b0 c x y (i + 1) = ps_cy b0 c x y i := by
  unfold ps_G at e
  unfold ps_cy
  by_cases q : b0 = true ∧ c = 0 ∧ x = y ∧ x < i
  · rw [if_pos q, if_pos ⟨q.1, q.2.1, q.2.2.1, by omega⟩]
  · rw [if_neg q]
    by_cases q' : b0 = true ∧ c = 0 ∧ x = y ∧ x < i + 1
    · obtain ⟨q1, q2, q3, q4⟩ := q'
      have ei : i = x := by
        by_cases z : x < i
        · exact absurd ⟨q1, q2, q3, z⟩ q
        · omega
      rw [if_pos ⟨q1, q2, ei⟩, ← q3, ← ei, Nat.testBit_two_pow_self] at e
      exact absurd e.symm Bool.false_ne_true
    · rw [if_neg q']
theorem ps_cyT {i : Nat} (e : (ps_G b0 c x y i).testBit i = true) : ps_cy b0 c x y i ||| 2 ^ i = ps_cy b0 c x y (i + 1) := by
  unfold ps_G at e
  unfold ps_cy
  by_cases q : b0 = true ∧ c = 0 ∧ i = x
  · rw [if_pos q, Nat.testBit_two_pow, decide_eq_true_eq] at e
    rw [if_neg (fun r => by omega), if_pos ⟨q.1, q.2.1, by omega, by omega⟩, Nat.zero_or, q.2.2]
  · rw [if_neg q, Nat.zero_testBit] at e
    exact absurd e Bool.false_ne_true
theorem ps_cyclic {post : Int32 → St2 → Prop} (h : ps_K b0 c x y k a1 a2 a3 a4) (H : ∀ k' b4 b5 b6, post (nI (ps_cy b0 c x y 8)) (nI (ps_pr b0 false), k', a1, a2, a3, b4, b5, b6)) :
    wpX_cyclic post (nI (ps_pr b0 false), k, a1, a2, a3, a4, a5, a6) :=
  pk_loop (σ := Int32 × Int32 × (Nat → Int32) × (Nat → Int32) × (Nat → Int32)) (fun n i t => wX_cyclic_4 post n t.1 (nI i) (nI (ps_pr b0 false)) t.2.1 a1 a2 a3 t.2.2.1 t.2.2.2.1 t.2.2.2.2)
    (fun i t => t.1 = nI (ps_cy b0 c x y i) ∧ ps_K b0 c x y t.2.1 a1 a2 a3 t.2.2.1) 8 0 (0, k, a4, a5, a6) (by omega)
    ⟨by
      show (0 : Int32) = nI (ps_cy b0 c x y 0)
      unfold ps_cy
      rw [if_neg (fun q => Nat.not_lt_zero x q.2.2.2)]
      rfl, h⟩
    (fun n t g => pk_le 8 8 (fun _ => by rw [g.1]; exact H _ _ _ _) (fun z => absurd z (by omega)))
    (fun n i t hi g hw => pk_le 8 i (fun z => absurd z (by omega)) (fun _ => ps_reach hi g.2 (fun b4 b5 b6 g4 => ps_in (m := ps_G b0 c x y i) (j := i) (g4 i hi).1 hi
      (fun e => br_t rfl (nm_r (e' := nI (ps_cy b0 c x y (i + 1))) (by rw [g.1, ps_or0, ps_cyF e]) (nm_r (nI_1 i) (hw (_, 1, b4, b5, b6) ⟨rfl, ps_K1 g.2 g4⟩))))
      (fun e => br_f ps_ne10 (nm_r (e' := nI (ps_cy b0 c x y (i + 1))) (by rw [g.1, ps_shl i hi, ps_or, ps_cyT e]) (nm_r (nI_1 i) (hw (_, 1, b4, b5, b6) ⟨rfl, ps_K1 g.2 g4⟩)))) rfl rfl)))
/-! flows -/
def ps_g (b0 : Bool) (c x y s : Nat) : Nat := if b0 = true ∧ c = 1 ∧ s.testBit y = true then s ||| 2 ^ x else s
theorem ps_g_lt {s : Nat} (h : b0 = true → x < 8) (hs : s < 256) : ps_g b0 c x y s < 256 := by
  unfold ps_g
  by_cases q : b0 = true ∧ c = 1 ∧ s.testBit y = true
  · rw [if_pos q]
    exact ps_or_lt hs (ps_pw x (h q.1))
  · rw [if_neg q]
    exact hs
theorem ps_g_g {s : Nat} : ps_g b0 c x y (ps_g b0 c x y s) = ps_g b0 c x y s := by
  by_cases q : b0 = true ∧ c = 1 ∧ s.testBit y = true
  · have e : ps_g b0 c x y s = s ||| 2 ^ x := if_pos q
    have t : (s ||| 2 ^ x).testBit y = true := by rw [Nat.testBit_or, q.2.2, Bool.true_or]
    rw [e]
    unfold ps_g
    rw [if_pos ⟨q.1, q.2.1, t⟩, Nat.or_assoc, Nat.or_self]
  · have e : ps_g b0 c x y s = s := if_neg q
    rw [e, e]
def ps_h (b0 : Bool) (c x y s m : Nat) : Nat := if m = 0 then s else ps_g b0 c x y s
theorem ps_f33 {post : Int32 → Prop} {J : Int32 → Int32 → Prop} {x1 : Int32} {s r : Nat} (hS : ps_S b0 false c x y 0 0 a1 a2 a3) (hs : s < 256) (H : J (nI (ps_g b0 c x y s)) (nI (r + 1))) :
    ∃ n, wX_flows_33 post J x1 (nI r) (nI (ps_pr b0 false)) k a1 a2 a3 a4 a5 a6 n (nI s) 0 :=
  pk_loop (σ := Int32) (fun n m t => wX_flows_33 post J x1 (nI r) (nI (ps_pr b0 false)) k a1 a2 a3 a4 a5 a6 n t (nI m)) (fun m t => t = nI (ps_h b0 c x y s m)) 12 0 (nI s) (by omega) rfl
    (fun n t h => pk_le 12 12 (fun _ => nm_r (nI_1 r) (by rw [h]; exact H)) (fun z => absurd z (by omega)))
    (fun n m t hm h hw => pk_le 12 m (fun z => absurd z (by omega)) (fun _ => by
      have keep : ps_h b0 c x y s m = ps_g b0 c x y s → wX_flows_78 post J (wX_flows_33 post J x1 (nI r) (nI (ps_pr b0 false)) k a1 a2 a3 a4 a5 a6 n) x1 t (nI r) (nI m) (nI (ps_pr b0 false)) k a1 a2 a3 a4 a5 a6 :=
        fun e => br_t rfl (nm_r (e' := nI (ps_h b0 c x y s (m + 1))) (by rw [h, ps_or0, e]; rfl) (nm_r (nI_1 m) (hw _ rfl)))
      refine ps_has hm (fun o => br_t rfl (keep ?_)) (fun o => br_f ps_ne10 ?_) rfl
      · by_cases em : m = 0
        · subst em
          rw [ps_on0] at o
          show s = _
          unfold ps_g
          rw [o, if_neg (fun q => Bool.false_ne_true q.1)]
        · exact if_neg em
      · rcases ps_onE o with ⟨em, eb⟩ | ⟨em, _⟩
        · subst em
          obtain ⟨_, hx, hy, e1, e2, e3⟩ := hS.1 eb
          refine ⟨pk_in 0 13 (by omega), ?_⟩
          by_cases hc : c = 1
          · refine br_t (by rw [ps_at (by omega) e1, hc]; rfl) ⟨pk_in 0 13 (by omega), ps_in (m := s) (j := y) hs hy (fun e => br_t rfl (keep ?_)) (fun e => br_f ps_ne10 (br_f ps_ne10 ⟨pk_in 0 13 (by omega), nm_r (e' := nI (ps_h b0 c x y s 1)) ?_ (nm_r (nI_1 0) (hw _ rfl))⟩)) h (ps_at (by omega) e3)⟩
            · exact (if_neg (fun q => by rw [e] at q; exact Bool.false_ne_true q.2.2)).symm
            · rw [h, ps_at (by omega) e2, ps_shl x hx]
              show nI s ||| nI (2 ^ x) = nI (ps_g b0 c x y s)
              rw [ps_or]
              unfold ps_g
              rw [if_pos ⟨eb, hc, e⟩]
          · refine br_f (by
              rw [ps_at (by omega) e1]
              have c4 := (hS.1 eb).1
              exact fun q => hc ((nI_eq (b := 1) (by omega) (by omega)).mp q)) (keep ?_)
            exact (if_neg (fun q => hc q.2.1)).symm
        · exact absurd em (by omega)))
theorem ps_f23 {post : Int32 → Prop} {s z : Nat} (hS : ps_S b0 false c x y 0 0 a1 a2 a3) (hs : s < 256) (hz : z < 8) (H : post (nI ((ps_g b0 c x y s).testBit z).toNat)) :
    ∃ n, wX_flows_23 post (nI z) (nI (ps_pr b0 false)) k a1 a2 a3 a4 a5 a6 n (nI s) 0 :=
  pk_loop (σ := Int32) (fun n m t => wX_flows_23 post (nI z) (nI (ps_pr b0 false)) k a1 a2 a3 a4 a5 a6 n t (nI m)) (fun m t => t = nI (ps_h b0 c x y s m)) 8 0 (nI s) (by omega) rfl
    (fun n t h => pk_le 8 8 (fun _ => ps_in (m := ps_g b0 c x y s) (j := z) (ps_g_lt (fun e => (hS.1 e).2.1) hs) hz (fun e => ⟨rfl, by rw [e] at H; exact H⟩) (fun e => ⟨rfl, by rw [e] at H; exact H⟩) h rfl) (fun z => absurd z (by omega)))
    (fun n m t hm h hw => pk_le 8 m (fun z => absurd z (by omega)) (fun _ => by
      have hl : ps_h b0 c x y s m < 256 := by
        unfold ps_h
        by_cases em : m = 0
        · rw [if_pos em]
          exact hs
        · rw [if_neg em]
          exact ps_g_lt (fun e => (hS.1 e).2.1) hs
      have hg : ps_g b0 c x y (ps_h b0 c x y s m) = ps_g b0 c x y s := by
        unfold ps_h
        by_cases em : m = 0
        · rw [if_pos em]
        · rw [if_neg em, ps_g_g]
      rw [h]
      exact ps_f33 hS hl (hw _ (by rw [hg]; rfl))))
def ps_fs (b0 : Bool) (c x y : Nat) (p q r : Int32) : Prop := (¬ (ps_V p ∧ ps_V q) ∧ r = 0) ∨ ∃ z u, z < 8 ∧ u < 8 ∧ p = nI z ∧ q = nI u ∧ r = nI ((ps_g b0 c x y (2 ^ u)).testBit z).toNat
theorem ps_flows {post : Int32 → Prop} {p q : Int32} (h : ps_K b0 c x y k a1 a2 a3 a4) (H : ∀ r, ps_fs b0 c x y p q r → post r) : wpX_flows post (nI (ps_pr b0 false), k, a1, a2, a3, a4, a5, a6) p q := by
  unfold wpX_flows
  exact ps_isv (fun z hz ez => br_f ps_ne10 (ps_isv (fun u hu eu => br_f ps_ne10 (nm_r (e' := nI (2 ^ u)) (by rw [eu]; exact ps_shl u hu) (by
    subst ez
    exact ps_f23 h.1 (ps_pw u hu) hz (H _ (Or.inr ⟨z, u, hz, hu, rfl, eu, rfl⟩))))) (fun n => br_t rfl (H 0 (Or.inl ⟨fun g => n g.2, rfl⟩))))) (fun n => br_t rfl (H 0 (Or.inl ⟨fun g => n g.1, rfl⟩)))
end
end
section
/-! the law's tail, from its end to its beginning -/
def ps_fl (r : Int32) (P : Prop) : Prop := (r = 1 ∧ P) ∨ (r = 0 ∧ ¬ P)
/-- what is due of gain -/
def ps_due (Z U Hs Cq : Prop) (d : Int32) : Prop := (¬ (Z ∧ U) → d = -1) ∧ (Z → U → (Hs → d = 0) ∧ (¬ Hs → (Cq → d = 2) ∧ (¬ Cq → d = 1)))
section
variable {post : Int32 → St0 → Prop} {mc ms kc ks : Nat} {x0 x1 x2 x3 x4 x6 x7 x8 x9 x10 x11 x12 x13 x14 x15 x16 x17 x18 x20 x21 z0 z1 : Int32} {G T C Z U Hs Pl X Y : Prop}
theorem ps_384 (hp : post 1 ()) (h17 : ps_fl x17 T) (hr : (T ∧ x1 = x2 → x11 = (1 : Int32) <<< (x1 &&& 31)) ∧ (¬ (T ∧ x1 = x2) → x11 = 0)) (e : z1 = z0) :
    wL_lawOf_384 post mc ms x1 x2 x11 x17 z0 z1 kc ks := by
  refine br_t e ?_
  rcases h17 with ⟨rfl, t⟩ | ⟨rfl, t⟩
  · exact br_f ps_ne10 (br_c (fun q => br_t (hr.1 ⟨t, q⟩) hp) (fun q => br_t (hr.2 (fun r => q r.2)) hp))
  · exact br_t rfl (br_t (hr.2 (fun r => t r.1)) hp)
theorem ps_368 (hi : (G ∧ ¬ x0 = 0 → x10 = 1) ∧ (¬ (G ∧ ¬ x0 = 0) → x10 = 0)) (h16 : ps_fl x16 G) (h384 : ∀ z0, x10 = z0 → wL_lawOf_384 post mc ms x1 x2 x11 x17 z0 x10 kc ks) :
    wL_lawOf_368 post mc ms x0 x1 x2 x10 x11 x16 x17 kc ks := by
  rcases h16 with ⟨rfl, g⟩ | ⟨rfl, g⟩
  · exact br_f ps_ne10 (br_c (fun q => h384 0 (hi.2 (fun r => r.2 q))) (fun q => h384 1 (hi.1 ⟨g, q⟩)))
  · exact br_t rfl (h384 0 (hi.2 (fun r => g r.1)))
theorem ps_353 (h21 : ps_fl x21 Pl) (hm : Pl → x9 = x20) (h368 : wL_lawOf_368 post mc ms x0 x1 x2 x10 x11 x16 x17 kc ks) (e : z1 = z0) :
    wL_lawOf_353 post mc ms x0 x1 x2 x9 x10 x11 x16 x17 x20 x21 z0 z1 kc ks := by
  refine br_t e ?_
  rcases h21 with ⟨rfl, p⟩ | ⟨rfl, p⟩
  · exact br_f ps_ne10 (br_t (hm p) h368)
  · exact br_t rfl h368
theorem ps_311 (h14 : ps_fl x14 Z) (h15 : ps_fl x15 U) (h18 : ps_fl x18 C)
    (hf : (Z ∧ U ∧ (x3 = x4 ∨ (C ∧ x3 = x1 ∧ x4 = x2)) → x8 = 1) ∧ (¬ (Z ∧ U ∧ (x3 = x4 ∨ (C ∧ x3 = x1 ∧ x4 = x2))) → x8 = 0))
    (h353 : ∀ z0, x8 = z0 → wL_lawOf_353 post mc ms x0 x1 x2 x9 x10 x11 x16 x17 x20 x21 z0 x8 kc ks) (e : z1 = z0) :
    wL_lawOf_311 post mc ms x0 x1 x2 x3 x4 x8 x9 x10 x11 x14 x15 x16 x17 x18 x20 x21 z0 z1 kc ks := by
  refine br_t e ?_
  rcases h14 with ⟨rfl, z⟩ | ⟨rfl, z⟩
  · refine br_f ps_ne10 ?_
    rcases h15 with ⟨rfl, u⟩ | ⟨rfl, u⟩
    · refine br_f ps_ne10 (br_c (fun q => h353 1 (hf.1 ⟨z, u, Or.inl q⟩)) (fun q => ?_))
      rcases h18 with ⟨rfl, cc⟩ | ⟨rfl, cc⟩
      · exact br_f ps_ne10 (br_c (fun q1 => br_c (fun q2 => h353 1 (hf.1 ⟨z, u, Or.inr ⟨cc, q1, q2⟩⟩)) (fun q2 => h353 0 (hf.2 (fun r => r.2.2.elim q (fun s => q2 s.2.2)))))
          (fun q1 => h353 0 (hf.2 (fun r => r.2.2.elim q (fun s => q1 s.2.1)))))
      · exact br_t rfl (h353 0 (hf.2 (fun r => r.2.2.elim q (fun s => cc s.1))))
    · exact br_t rfl (h353 0 (hf.2 (fun r => u r.2.1)))
  · exact br_t rfl (h353 0 (hf.2 (fun r => z r.1)))
theorem ps_289 (h17 : ps_fl x17 T) (hs : (T ∧ x3 = x1 → x7 = (1 : Int32) <<< (x2 &&& 31)) ∧ (¬ (T ∧ x3 = x1) → x7 = 0))
    (h311 : ∀ z0, x7 = z0 → wL_lawOf_311 post mc ms x0 x1 x2 x3 x4 x8 x9 x10 x11 x14 x15 x16 x17 x18 x20 x21 z0 x7 kc ks) (e : z1 = z0) :
    wL_lawOf_289 post mc ms x0 x1 x2 x3 x4 x7 x8 x9 x10 x11 x14 x15 x16 x17 x18 x20 x21 z0 z1 kc ks := by
  refine br_t e ?_
  rcases h17 with ⟨rfl, t⟩ | ⟨rfl, t⟩
  · exact br_f ps_ne10 (br_c (fun q => h311 _ (hs.1 ⟨t, q⟩)) (fun q => h311 0 (hs.2 (fun r => q r.2))))
  · exact br_t rfl (h311 0 (hs.2 (fun r => t r.1)))
theorem ps_275 (h16 : ps_fl x16 G) (hg : (G → x6 = 0) ∧ (¬ G → x6 = -1))
    (h289 : ∀ z1, x6 = z1 → wL_lawOf_289 post mc ms x0 x1 x2 x3 x4 x7 x8 x9 x10 x11 x14 x15 x16 x17 x18 x20 z0 z1 x6 kc ks) :
    wL_lawOf_275 post mc ms x0 x1 x2 x3 x4 x6 x7 x8 x9 x10 x11 x14 x15 x16 x17 x18 x20 z0 kc ks := by
  rcases h16 with ⟨rfl, g⟩ | ⟨rfl, g⟩
  · exact br_f ps_ne10 (h289 0 (hg.1 g))
  · exact br_t rfl (h289 (-1) (hg.2 g))
theorem ps_258 (h16 : ps_fl x16 G) (h275 : ∀ p, ps_fl p (¬ (G ∧ 2 ≤ x0)) → wL_lawOf_275 post mc ms x0 x1 x2 x3 x4 x6 x7 x8 x9 x10 x11 x14 x15 x16 x17 x18 z0 p kc ks) :
    wL_lawOf_258 post mc ms x0 x1 x2 x3 x4 x6 x7 x8 x9 x10 x11 x14 x15 x16 x17 x18 z0 kc ks := by
  rcases h16 with ⟨rfl, g⟩ | ⟨rfl, g⟩
  · exact br_f ps_ne10 (br_c (fun q => h275 0 (Or.inr ⟨rfl, fun r => r ⟨g, q⟩⟩)) (fun q => h275 1 (Or.inl ⟨rfl, fun r => q r.2⟩)))
  · exact br_t rfl (h275 1 (Or.inl ⟨rfl, fun r => g r.1⟩))
theorem ps_213 (h14 : ps_fl x14 Z) (h15 : ps_fl x15 U) (h18 : ps_fl x18 C) (hh : ps_fl z0 Hs)
    (h258 : ∀ d, ps_due Z U Hs (C ∧ x3 = x2 ∧ ¬ x1 = x2) d → wL_lawOf_258 post mc ms x0 x1 x2 x3 x4 x6 x7 x8 x9 x10 x11 x14 x15 x16 x17 x18 d kc ks) :
    wL_lawOf_213 post mc ms x0 x1 x2 x3 x4 x6 x7 x8 x9 x10 x11 x14 x15 x16 x17 x18 z0 kc ks := by
  rcases h14 with ⟨rfl, z⟩ | ⟨rfl, z⟩
  · refine br_f ps_ne10 ?_
    rcases h15 with ⟨rfl, u⟩ | ⟨rfl, u⟩
    · refine br_f ps_ne10 ?_
      rcases hh with ⟨rfl, hs⟩ | ⟨rfl, hs⟩
      · exact br_f ps_ne10 (h258 0 ⟨fun n => absurd ⟨z, u⟩ n, fun _ _ => ⟨fun _ => rfl, fun n => absurd hs n⟩⟩)
      · have one : ¬ (C ∧ x3 = x2 ∧ ¬ x1 = x2) → wL_lawOf_258 post mc ms x0 x1 x2 x3 x4 x6 x7 x8 x9 x10 x11 1 1 x16 x17 x18 1 kc ks :=
          fun m => h258 1 ⟨fun n => absurd ⟨z, u⟩ n, fun _ _ => ⟨fun n => absurd n hs, fun _ => ⟨fun n => absurd n m, fun _ => rfl⟩⟩⟩
        refine br_t rfl ?_
        rcases h18 with ⟨rfl, cc⟩ | ⟨rfl, cc⟩
        · exact br_f ps_ne10 (br_c (fun q1 => br_c (fun q2 => one (fun r => r.2.2 q2)) (fun q2 => h258 2 ⟨fun n => absurd ⟨z, u⟩ n, fun _ _ => ⟨fun n => absurd n hs, fun _ => ⟨fun _ => rfl, fun n => absurd ⟨cc, q1, q2⟩ n⟩⟩⟩)) (fun q1 => one (fun r => q1 r.2.1)))
        · exact br_t rfl (one (fun r => cc r.1))
    · exact br_t rfl (h258 (-1) ⟨fun _ => rfl, fun _ n => absurd n u⟩)
  · exact br_t rfl (h258 (-1) ⟨fun _ => rfl, fun n => absurd n z⟩)
theorem ps_190 (h17 : ps_fl x17 T) (h213 : ∀ s, ps_fl s (T ∧ x3 = x1 ∧ x4 = x2) → wL_lawOf_213 post mc ms x0 x1 x2 x3 x4 x6 x7 x8 x9 x10 x11 x14 x15 x16 x17 z0 s kc ks) :
    wL_lawOf_190 post mc ms x0 x1 x2 x3 x4 x6 x7 x8 x9 x10 x11 x14 x15 x16 x17 z0 kc ks := by
  rcases h17 with ⟨rfl, t⟩ | ⟨rfl, t⟩
  · exact br_f ps_ne10 (br_c (fun q1 => br_c (fun q2 => h213 1 (Or.inl ⟨rfl, t, q1, q2⟩)) (fun q2 => h213 0 (Or.inr ⟨rfl, fun r => q2 r.2.2⟩))) (fun q1 => h213 0 (Or.inr ⟨rfl, fun r => q1 r.2.1⟩)))
  · exact br_t rfl (h213 0 (Or.inr ⟨rfl, fun r => t r.1⟩))
theorem ps_173 (h16 : ps_fl x16 G) (h190 : ∀ s, ps_fl s (G ∧ x0 = 1) → wL_lawOf_190 post mc ms x0 x1 x2 x3 x4 x6 x7 x8 x9 x10 x11 x14 x15 x16 z0 s kc ks) :
    wL_lawOf_173 post mc ms x0 x1 x2 x3 x4 x6 x7 x8 x9 x10 x11 x14 x15 x16 z0 kc ks := by
  rcases h16 with ⟨rfl, g⟩ | ⟨rfl, g⟩
  · exact br_f ps_ne10 (br_c (fun q => h190 1 (Or.inl ⟨rfl, g, q⟩)) (fun q => h190 0 (Or.inr ⟨rfl, fun r => q r.2⟩)))
  · exact br_t rfl (h190 0 (Or.inr ⟨rfl, fun r => g r.1⟩))
theorem ps_157 (h16 : ps_fl z0 G) (h173 : ∀ s, ps_fl s (G ∧ x0 = 0) → wL_lawOf_173 post mc ms x0 x1 x2 x3 x4 x6 x7 x8 x9 x10 x11 x14 x15 z0 s kc ks) :
    wL_lawOf_157 post mc ms x0 x1 x2 x3 x4 x6 x7 x8 x9 x10 x11 x14 x15 z0 kc ks := by
  rcases h16 with ⟨rfl, g⟩ | ⟨rfl, g⟩
  · exact br_f ps_ne10 (br_c (fun q => h173 1 (Or.inl ⟨rfl, g, q⟩)) (fun q => h173 0 (Or.inr ⟨rfl, fun r => q r.2⟩)))
  · exact br_t rfl (h173 0 (Or.inr ⟨rfl, fun r => g r.1⟩))
theorem ps_131 (h12 : ps_fl x12 X) (h13 : ps_fl x13 Y) (hG : G ↔ ¬ x0 < 0 ∧ ¬ 3 < x0 ∧ X ∧ Y)
    (h157 : ∀ s, ps_fl s G → wL_lawOf_157 post mc ms x0 x1 x2 x3 x4 x6 x7 x8 x9 x10 x11 x14 z0 s kc ks) :
    wL_lawOf_131 post mc ms x0 x1 x2 x3 x4 x6 x7 x8 x9 x10 x11 x12 x13 x14 z0 kc ks := by
  refine br_c (fun q => h157 0 (Or.inr ⟨rfl, fun g => (hG.mp g).1 q⟩)) (fun q0 => br_c (fun q => h157 0 (Or.inr ⟨rfl, fun g => (hG.mp g).2.1 q⟩)) (fun q3 => ?_))
  rcases h12 with ⟨rfl, hx⟩ | ⟨rfl, hx⟩
  · refine br_f ps_ne10 ?_
    rcases h13 with ⟨rfl, hy⟩ | ⟨rfl, hy⟩
    · exact br_f ps_ne10 (h157 1 (Or.inl ⟨rfl, hG.mpr ⟨q0, q3, hx, hy⟩⟩))
    · exact br_t rfl (h157 0 (Or.inr ⟨rfl, fun g => hy (hG.mp g).2.2.2⟩))
  · exact br_t rfl (h157 0 (Or.inr ⟨rfl, fun g => hx (hG.mp g).2.2.1⟩))
theorem ps_V7 {p : Int32} (h : 7 < p) : ¬ ps_V p := by
  rintro ⟨j, hj, rfl⟩
  exact nI_nlt (a := 7) (b := j) (by omega) (by decide) h
theorem ps_Vok {p : Int32} (h0 : ¬ p < 0) (h7 : ¬ 7 < p) : ps_V p := by
  obtain ⟨j, hj, rfl⟩ := nI_of h0
  refine ⟨j, ?_, rfl⟩
  rcases Nat.lt_or_ge j 8 with h | h
  · exact h
  · exact absurd (nI_lt (a := 7) (by omega) hj) h7
/-- a variable or not -/
theorem ps_vfl {p : Int32} {A B D : Prop} (h0 : ¬ ps_V p → A) (h1 : ¬ ps_V p → B) (h2 : ps_V p → D) : (p < 0 → A) ∧ (¬ p < 0 → ((7 < p → B) ∧ (¬ 7 < p → D))) :=
  br_c (fun q => h0 (ps_V_neg q)) (fun q0 => br_c (fun q => h1 (ps_V7 q)) (fun q => h2 (ps_Vok q0 q)))
theorem ps_112 (h131 : ∀ s, ps_fl s (ps_V x4) → wL_lawOf_131 post mc ms x0 x1 x2 x3 x4 x6 x7 x8 x9 x10 x11 x12 x13 z0 s kc ks) :
    wL_lawOf_112 post mc ms x0 x1 x2 x3 x4 x6 x7 x8 x9 x10 x11 x12 x13 z0 kc ks :=
  ps_vfl (fun n => h131 0 (Or.inr ⟨rfl, n⟩)) (fun n => h131 0 (Or.inr ⟨rfl, n⟩)) (fun n => h131 1 (Or.inl ⟨rfl, n⟩))
theorem ps_95 (h112 : ∀ s, ps_fl s (ps_V x3) → wL_lawOf_112 post mc ms x0 x1 x2 x3 x4 x6 x7 x8 x9 x10 x11 x12 z0 s kc ks) :
    wL_lawOf_95 post mc ms x0 x1 x2 x3 x4 x6 x7 x8 x9 x10 x11 x12 z0 kc ks :=
  ps_vfl (fun n => h112 0 (Or.inr ⟨rfl, n⟩)) (fun n => h112 0 (Or.inr ⟨rfl, n⟩)) (fun n => h112 1 (Or.inl ⟨rfl, n⟩))
theorem ps_78 (h95 : ∀ s, ps_fl s (ps_V x2) → wL_lawOf_95 post mc ms x0 x1 x2 x3 x4 x6 x7 x8 x9 x10 x11 z0 s kc ks) :
    wL_lawOf_78 post mc ms x0 x1 x2 x3 x4 x6 x7 x8 x9 x10 x11 z0 kc ks :=
  ps_vfl (fun n => h95 0 (Or.inr ⟨rfl, n⟩)) (fun n => h95 0 (Or.inr ⟨rfl, n⟩)) (fun n => h95 1 (Or.inl ⟨rfl, n⟩))
/-- the whole tail: what each answer has to be -/
theorem ps_tail (hp : post 1 ()) (hG : G ↔ ¬ x0 < 0 ∧ ¬ 3 < x0 ∧ ps_V x1 ∧ ps_V x2) (hg : (G → x6 = 0) ∧ (¬ G → x6 = -1))
    (hs : ((G ∧ x0 = 0) ∧ x3 = x1 → x7 = (1 : Int32) <<< (x2 &&& 31)) ∧ (¬ ((G ∧ x0 = 0) ∧ x3 = x1) → x7 = 0))
    (hf : (ps_V x3 ∧ ps_V x4 ∧ (x3 = x4 ∨ ((G ∧ x0 = 1) ∧ x3 = x1 ∧ x4 = x2)) → x8 = 1) ∧ (¬ (ps_V x3 ∧ ps_V x4 ∧ (x3 = x4 ∨ ((G ∧ x0 = 1) ∧ x3 = x1 ∧ x4 = x2))) → x8 = 0))
    (hm : ¬ (G ∧ 2 ≤ x0) → ∀ d, ps_due (ps_V x3) (ps_V x4) ((G ∧ x0 = 0) ∧ x3 = x1 ∧ x4 = x2) ((G ∧ x0 = 1) ∧ x3 = x2 ∧ ¬ x1 = x2) d → x9 = d)
    (hi : (G ∧ ¬ x0 = 0 → x10 = 1) ∧ (¬ (G ∧ ¬ x0 = 0) → x10 = 0))
    (hr : ((G ∧ x0 = 0) ∧ x1 = x2 → x11 = (1 : Int32) <<< (x1 &&& 31)) ∧ (¬ ((G ∧ x0 = 0) ∧ x1 = x2) → x11 = 0)) (h12 : ps_fl z0 (ps_V x1)) :
    wL_lawOf_78 post mc ms x0 x1 x2 x3 x4 x6 x7 x8 x9 x10 x11 z0 kc ks :=
  ps_78 (fun _ h13 => ps_95 (fun _ h14 => ps_112 (fun _ h15 => ps_131 h12 h13 hG (fun _ h16 => ps_157 h16 (fun _ h17 => ps_173 h16 (fun _ h18 => ps_190 h17 (fun _ hh => ps_213 h14 h15 h18 hh (fun d hd => ps_258 h16 (fun _ h21 =>
    ps_275 h16 hg (fun _ e6 => ps_289 h17 hs (fun _ e7 => ps_311 h14 h15 h18 hf (fun _ e8 => ps_353 h21 (fun q => hm q d hd) (ps_368 hi h16 (fun _ e10 => ps_384 hp h17 hr e10)) e8) e7) e6))))))))))
end
end
section
section
variable {b0 : Bool} {c x y : Nat} {p0 p1 p2 p3 p4 : Int32}
theorem ps_8 {a b : Nat} (ha : a < 8) (hb : b < 8) : nI a = nI b ↔ a = b := nI_eq (by omega) (by omega)
/-- what slot 0 has to do with the arguments -/
def ps_arg (b0 : Bool) (c x y : Nat) (p0 p1 p2 : Int32) : Prop := b0 = true → c < 4 ∧ x < 8 ∧ y < 8 ∧ p0 = nI c ∧ p1 = nI x ∧ p2 = nI y
theorem ps_iT (h : ps_arg b0 c x y p0 p1 p2) : b0 = true → (p0 = 0 ↔ c = 0) := by
  intro e
  obtain ⟨hc, _, _, e0, _⟩ := h e
  rw [e0]
  exact ps_8 (b := 0) (by omega) (by omega)
theorem ps_iC (h : ps_arg b0 c x y p0 p1 p2) : b0 = true → (p0 = 1 ↔ c = 1) := by
  intro e
  obtain ⟨hc, _, _, e0, _⟩ := h e
  rw [e0]
  exact ps_8 (b := 1) (by omega) (by omega)
theorem ps_i2 (h : ps_arg b0 c x y p0 p1 p2) : b0 = true → (2 ≤ p0 ↔ 2 ≤ c) := by
  intro e
  obtain ⟨hc, _, _, e0, _⟩ := h e
  rw [e0]
  exact nI_leI (a := 2) (by omega) (by omega)
theorem ps_iX (h : ps_arg b0 c x y p0 p1 p2) {z : Nat} (hz : z < 8) : b0 = true → (nI z = p1 ↔ z = x) := by
  intro e
  obtain ⟨_, hx, _, _, e1, _⟩ := h e
  rw [e1]
  exact ps_8 hz hx
theorem ps_iY (h : ps_arg b0 c x y p0 p1 p2) {z : Nat} (hz : z < 8) : b0 = true → (nI z = p2 ↔ z = y) := by
  intro e
  obtain ⟨_, _, hy, _, _, e2⟩ := h e
  rw [e2]
  exact ps_8 hz hy
theorem ps_iXY (h : ps_arg b0 c x y p0 p1 p2) : b0 = true → (p1 = p2 ↔ x = y) := by
  intro e
  obtain ⟨_, hx, hy, _, e1, e2⟩ := h e
  rw [e1, e2]
  exact ps_8 hx hy
theorem ps_shY (h : ps_arg b0 c x y p0 p1 p2) (e : b0 = true) : (1 : Int32) <<< (p2 &&& 31) = nI (2 ^ y) := by
  obtain ⟨_, _, hy, _, _, e2⟩ := h e
  rw [e2]
  exact ps_shl y hy
theorem ps_shX (h : ps_arg b0 c x y p0 p1 p2) (e : b0 = true) : (1 : Int32) <<< (p1 &&& 31) = nI (2 ^ x) := by
  obtain ⟨_, hx, _, _, e1, _⟩ := h e
  rw [e1]
  exact ps_shl x hx
theorem ps_set (h : ps_arg b0 c x y p0 p1 p2) {r : Int32} (s : (∃ z, z < 8 ∧ p3 = nI z ∧ r = nI (ps_G b0 c x y z)) ∨ (¬ ps_V p3 ∧ r = 0)) :
    ((b0 = true ∧ p0 = 0) ∧ p3 = p1 → r = (1 : Int32) <<< (p2 &&& 31)) ∧ (¬ ((b0 = true ∧ p0 = 0) ∧ p3 = p1) → r = 0) := by
  rcases s with ⟨z, hz, rfl, rfl⟩ | ⟨n, rfl⟩
  · refine ⟨fun q => ?_, fun q => ?_⟩
    · rw [ps_shY h q.1.1]
      unfold ps_G
      rw [if_pos ⟨q.1.1, (ps_iT h q.1.1).mp q.1.2, (ps_iX h hz q.1.1).mp q.2⟩]
    · unfold ps_G
      rw [if_neg (fun g => q ⟨⟨g.1, (ps_iT h g.1).mpr g.2.1⟩, (ps_iX h hz g.1).mpr g.2.2⟩)]
      rfl
  · refine ⟨fun q => ?_, fun _ => rfl⟩
    obtain ⟨_, hx, _, _, e1, _⟩ := h q.1.1
    exact absurd ⟨x, hx, by rw [q.2, e1]⟩ n
theorem ps_g_tb {z u : Nat} : (ps_g b0 c x y (2 ^ u)).testBit z = true ↔ (z = u ∨ (b0 = true ∧ c = 1 ∧ z = x ∧ u = y)) := by
  unfold ps_g
  by_cases q : b0 = true ∧ c = 1 ∧ (2 ^ u).testBit y = true
  · rw [if_pos q, Nat.testBit_or, Bool.or_eq_true, Nat.testBit_two_pow, Nat.testBit_two_pow, decide_eq_true_eq, decide_eq_true_eq]
    have q3 := q.2.2
    rw [Nat.testBit_two_pow, decide_eq_true_eq] at q3
    constructor
    · rintro (e | e)
      · exact Or.inl e.symm
      · exact Or.inr ⟨q.1, q.2.1, e.symm, q3⟩
    · rintro (e | e)
      · exact Or.inl e.symm
      · exact Or.inr e.2.2.1.symm
  · rw [if_neg q, Nat.testBit_two_pow, decide_eq_true_eq]
    constructor
    · exact fun e => Or.inl e.symm
    · rintro (e | e)
      · exact e.symm
      · refine absurd ⟨e.1, e.2.1, ?_⟩ q
        rw [Nat.testBit_two_pow, decide_eq_true_eq]
        exact e.2.2.2
theorem ps_flo (h : ps_arg b0 c x y p0 p1 p2) {r : Int32} (s : ps_fs b0 c x y p3 p4 r) :
    (ps_V p3 ∧ ps_V p4 ∧ (p3 = p4 ∨ ((b0 = true ∧ p0 = 1) ∧ p3 = p1 ∧ p4 = p2)) → r = 1) ∧ (¬ (ps_V p3 ∧ ps_V p4 ∧ (p3 = p4 ∨ ((b0 = true ∧ p0 = 1) ∧ p3 = p1 ∧ p4 = p2))) → r = 0) := by
  rcases s with ⟨n, rfl⟩ | ⟨z, u, hz, hu, rfl, rfl, rfl⟩
  · exact ⟨fun q => absurd ⟨q.1, q.2.1⟩ n, fun _ => rfl⟩
  · have V3 : ps_V (nI z) := ⟨z, hz, rfl⟩
    have V4 : ps_V (nI u) := ⟨u, hu, rfl⟩
    have E : (nI z = nI u ∨ ((b0 = true ∧ p0 = 1) ∧ nI z = p1 ∧ nI u = p2)) ↔ (z = u ∨ (b0 = true ∧ c = 1 ∧ z = x ∧ u = y)) := by
      constructor
      · rintro (e | e)
        · exact Or.inl ((ps_8 hz hu).mp e)
        · exact Or.inr ⟨e.1.1, (ps_iC h e.1.1).mp e.1.2, (ps_iX h hz e.1.1).mp e.2.1, (ps_iY h hu e.1.1).mp e.2.2⟩
      · rintro (e | e)
        · exact Or.inl ((ps_8 hz hu).mpr e)
        · exact Or.inr ⟨⟨e.1, (ps_iC h e.1).mpr e.2.1⟩, (ps_iX h hz e.1).mpr e.2.2.1, (ps_iY h hu e.1).mpr e.2.2.2⟩
    refine ⟨fun q => ?_, fun q => ?_⟩
    · rw [ps_g_tb.mpr (E.mp q.2.2)]
      rfl
    · have f : (ps_g b0 c x y (2 ^ u)).testBit z = false := by
        cases e : (ps_g b0 c x y (2 ^ u)).testBit z
        · rfl
        · exact absurd ⟨V3, V4, E.mpr (ps_g_tb.mp e)⟩ q
      rw [f]
      rfl
theorem ps_mor (h : ps_arg b0 c x y p0 p1 p2) {r : Int32} (s : ps_gs b0 c x y p3 p4 r) (np : ¬ (b0 = true ∧ 2 ≤ p0)) (d : Int32)
    (hd : ps_due (ps_V p3) (ps_V p4) ((b0 = true ∧ p0 = 0) ∧ p3 = p1 ∧ p4 = p2) ((b0 = true ∧ p0 = 1) ∧ p3 = p2 ∧ ¬ p1 = p2) d) : r = d := by
  rcases s with ⟨n, rfl⟩ | ⟨z, w, hz, hw, rfl, rfl, hr⟩
  · exact (hd.1 n).symm
  · rw [hr (fun e => by
      rcases Nat.lt_or_ge c 2 with q | q
      · exact q
      · exact absurd ⟨e, (ps_i2 h e).mpr q⟩ np)]
    obtain ⟨d1, d2⟩ := hd.2 ⟨z, hz, rfl⟩ ⟨w, hw, rfl⟩
    unfold ps_t1 ps_t0
    by_cases q : b0 = true ∧ c = 0
    · rw [if_pos q, if_pos q]
      by_cases g : z = x ∧ w = y
      · rw [if_pos g, d1 ⟨⟨q.1, (ps_iT h q.1).mpr q.2⟩, (ps_iX h hz q.1).mpr g.1, (ps_iY h hw q.1).mpr g.2⟩]
        decide
      · rw [if_neg g]
        refine Eq.trans ?_ ((d2 (fun e => g ⟨(ps_iX h hz q.1).mp e.2.1, (ps_iY h hw q.1).mp e.2.2⟩)).2 (fun e => ?_)).symm
        · decide
        · exact absurd ((ps_iC h q.1).mp e.1.2) (by omega)
    · rw [if_neg q, if_neg q]
      have nH : ¬ ((b0 = true ∧ p0 = 0) ∧ nI z = p1 ∧ nI w = p2) := fun e => q ⟨e.1.1, (ps_iT h e.1.1).mp e.1.2⟩
      by_cases g : b0 = true ∧ c = 1 ∧ z = y ∧ x ≠ y
      · rw [if_pos g, (d2 nH).1 ⟨⟨g.1, (ps_iC h g.1).mpr g.2.1⟩, (ps_iY h hz g.1).mpr g.2.2.1, fun e => g.2.2.2 ((ps_iXY h g.1).mp e)⟩]
        decide
      · rw [if_neg g, (d2 nH).2 (fun e => g ⟨e.1.1, (ps_iC h e.1.1).mp e.1.2, (ps_iY h hz e.1.1).mp e.2.1, fun f => e.2.2 ((ps_iXY h e.1.1).mpr f)⟩)]
        decide
theorem ps_idl (h : ps_arg b0 c x y p0 p1 p2) {r : Int32} (s : (b0 = true ∧ c ≠ 0 → r = 1) ∧ (¬ (b0 = true ∧ c ≠ 0) → r = 0)) :
    (b0 = true ∧ ¬ p0 = 0 → r = 1) ∧ (¬ (b0 = true ∧ ¬ p0 = 0) → r = 0) :=
  ⟨fun q => s.1 ⟨q.1, fun e => q.2 ((ps_iT h q.1).mpr e)⟩, fun q => s.2 (fun g => q ⟨g.1, fun e => g.2 ((ps_iT h g.1).mp e)⟩)⟩
theorem ps_rnd (h : ps_arg b0 c x y p0 p1 p2) :
    ((b0 = true ∧ p0 = 0) ∧ p1 = p2 → nI (ps_cy b0 c x y 8) = (1 : Int32) <<< (p1 &&& 31)) ∧ (¬ ((b0 = true ∧ p0 = 0) ∧ p1 = p2) → nI (ps_cy b0 c x y 8) = 0) := by
  refine ⟨fun q => ?_, fun q => ?_⟩
  · rw [ps_shX h q.1.1]
    unfold ps_cy
    rw [if_pos ⟨q.1.1, (ps_iT h q.1.1).mp q.1.2, (ps_iXY h q.1.1).mp q.2, (h q.1.1).2.1⟩]
  · unfold ps_cy
    rw [if_neg (fun g => q ⟨⟨g.1, (ps_iT h g.1).mpr g.2.1⟩, (ps_iXY h g.1).mpr g.2.2.1⟩)]
    rfl
theorem ps_gd : ps_good p0 p1 p2 ↔ ¬ p0 < 0 ∧ ¬ 3 < p0 ∧ ps_V p1 ∧ ps_V p2 := by
  constructor
  · rintro ⟨⟨c, hc, rfl⟩, g⟩
    exact ⟨nI_pos (by omega), nI_nlt (a := 3) (by omega) (by decide), g⟩
  · rintro ⟨h0, h3, g⟩
    obtain ⟨j, hj, rfl⟩ := nI_of h0
    refine ⟨⟨j, ?_, rfl⟩, g⟩
    rcases Nat.lt_or_ge j 4 with q | q
    · exact q
    · exact absurd (nI_lt (a := 3) (by omega) hj) h3
theorem ps_fin {post : Int32 → St0 → Prop} {mc ms kc ks : Nat} {r6 r7 r8 r9 r10 : Int32} (hp : post 1 ()) (h : ps_arg b0 c x y p0 p1 p2) (hG : b0 = true ↔ ps_good p0 p1 p2) (s6 : (b0 = true → r6 = 0) ∧ (¬ b0 = true → r6 = -1))
    (s7 : (∃ z, z < 8 ∧ p3 = nI z ∧ r7 = nI (ps_G b0 c x y z)) ∨ (¬ ps_V p3 ∧ r7 = 0)) (s8 : ps_fs b0 c x y p3 p4 r8) (s9 : ps_gs b0 c x y p3 p4 r9)
    (s10 : (b0 = true ∧ c ≠ 0 → r10 = 1) ∧ (¬ (b0 = true ∧ c ≠ 0) → r10 = 0)) :
    (p1 < 0 → wL_lawOf_77 post mc ms p0 p1 p2 p3 p4 r6 r7 r8 r9 r10 (nI (ps_cy b0 c x y 8)) kc ks) ∧ (¬ p1 < 0 → ((7 < p1 → wL_lawOf_77 post mc ms p0 p1 p2 p3 p4 r6 r7 r8 r9 r10 (nI (ps_cy b0 c x y 8)) kc ks) ∧ (¬ 7 < p1 → wL_lawOf_78 post mc ms p0 p1 p2 p3 p4 r6 r7 r8 r9 r10 (nI (ps_cy b0 c x y 8)) 1 kc ks))) := by
  have t : ∀ z0, ps_fl z0 (ps_V p1) → wL_lawOf_78 post mc ms p0 p1 p2 p3 p4 r6 r7 r8 r9 r10 (nI (ps_cy b0 c x y 8)) z0 kc ks :=
    fun z0 h12 => ps_tail (G := b0 = true) hp (hG.trans ps_gd) s6 (ps_set h s7) (ps_flo h s8) (fun np d hd => ps_mor h s9 np d hd) (ps_idl h s10) (ps_rnd h) h12
  exact ps_vfl (fun n => t 0 (Or.inr ⟨rfl, n⟩)) (fun n => t 0 (Or.inr ⟨rfl, n⟩)) (fun n => t 1 (Or.inl ⟨rfl, n⟩))
end
theorem ps_lawOf {post : Int32 → St0 → Prop} (hp : post 1 ()) (p0 p1 p2 p3 p4 : Int32) : wpL_lawOf post 7 71 () p0 p1 p2 p3 p4 := by
  refine ⟨by omega, by omega, 6, 63, by omega, by omega, by omega, by omega, by omega, by omega, by omega, by omega, by omega, by omega, by omega, by omega, by omega, by omega, ?_⟩
  refine ps_add (k := 0) (fun c x y e0 e1 e2 b1 b2 b3 hK => ?_) (fun n => ?_)
  · have hS := hK.1.1 rfl
    have h : ps_arg true c x y p0 p1 p2 := fun _ => ⟨hS.1, hS.2.1, hS.2.2.1, e0, e1, e2⟩
    have hG : true = true ↔ ps_good p0 p1 p2 := ⟨fun _ => ⟨⟨c, hS.1, e0⟩, ⟨x, hS.2.1, e1⟩, ⟨y, hS.2.2.1, e2⟩⟩, fun _ => rfl⟩
    exact ps_pointsTo hK (fun r7 _ _ _ _ hK7 s7 => ps_flows hK7 (fun r8 s8 => ps_gain hK7 (fun r9 _ _ _ _ _ _ _ hK9 s9 => ps_redundant hK9 (fun r10 _ _ _ _ hK10 s10 => ps_cyclic hK10 (fun _ _ _ _ =>
      ps_fin hp h hG ⟨fun _ => rfl, fun q => absurd rfl q⟩ s7 s8 s9 s10)))))
  · have h : ps_arg false 0 0 0 p0 p1 p2 := fun q => absurd q Bool.false_ne_true
    have hG : false = true ↔ ps_good p0 p1 p2 := ⟨fun q => absurd q Bool.false_ne_true, fun q => absurd q n⟩
    have hK : ps_K false 0 0 0 0 (fun _ => 0) (fun _ => 0) (fun _ => 0) (fun _ => 0) := ⟨⟨fun z => absurd z Bool.false_ne_true, fun z => absurd z Bool.false_ne_true⟩, Or.inl rfl⟩
    exact ps_pointsTo hK (fun r7 _ _ _ _ hK7 s7 => ps_flows hK7 (fun r8 s8 => ps_gain hK7 (fun r9 _ _ _ _ _ _ _ hK9 s9 => ps_redundant hK9 (fun r10 _ _ _ _ hK10 s10 => ps_cyclic hK10 (fun _ _ _ _ =>
      ps_fin hp h hG ⟨fun q => absurd q Bool.false_ne_true, fun _ => rfl⟩ s7 s8 s9 s10)))))
theorem ps_cell {post : Int32 → Prop} {L : Nat} {xs : Nat → Int32} (hL : L ≤ 5) (j : Nat) (hj : j < 5) (H : ∀ r, post r) {J : Int32} (e : J = nI j) : wpL_cellAt post L xs () J := by
  subst e
  exact pk_le L j (fun _ => H _) (fun z => ⟨pk_in j L z, H _⟩)
theorem i_vc (xs : Nat → Int32) (L : Nat) (hL : L ≤ 5) : wpL_law (fun r => r = 1) L xs :=
  ps_cell hL 0 (by omega) (fun _ => ps_cell hL 1 (by omega) (fun _ => ps_cell hL 2 (by omega) (fun _ => ps_cell hL 3 (by omega) (fun _ => ps_cell hL 4 (by omega) (fun _ =>
    ⟨7, 71, by omega, by omega, ps_lawOf rfl _ _ _ _ _⟩) rfl) rfl) rfl) rfl) rfl
end
