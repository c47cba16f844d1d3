section
/-! the small static methods, by what they answer -/
section
variable {c : Int32} {a1 a2 a3 a4 a5 a6 a7 a8 a9 a10 a11 a12 a13 a14 a15 : Nat → Int32}
def mt_off (x : Int32) : Int32 := if x < 0 then 1 else if x < 18 then 0 else 1
theorem mt_off_w {post : Int32 → Prop} {x r : Int32} (e : mt_off x = r) (h : post r) : wpX_off post () x := by
  subst e
  unfold wpX_off
  unfold mt_off at h
  refine ⟨fun z => ?_, fun z => ⟨fun y => ?_, fun y => ?_⟩⟩
  · rw [if_pos z] at h; exact h
  · rw [if_neg z, if_pos y] at h; exact h
  · rw [if_neg z, if_neg y] at h; exact h
theorem mt_off_n : ∀ f, f < 18 → mt_off (nI f) = 0 := by decide +kernel
def mt_nA (k : Int32) : Int32 := if k < 2 then 0 else 1
def mt_nB (k : Int32) : Int32 := if k < 2 then 0 else if 6 < k then 0 else 1
def mt_nS (k : Int32) : Int32 := if k = 6 then 1 else if k = 8 then 1 else 0
theorem mt_nA_w {post : Int32 → Prop} {x : Int32} (h : post (mt_nA x)) : wpX_namesA post () x := by
  unfold wpX_namesA
  unfold mt_nA at h
  refine ⟨fun z => ?_, fun z => ?_⟩
  · rw [if_pos z] at h; exact h
  · rw [if_neg z] at h; exact h
theorem mt_nB_w {post : Int32 → Prop} {x : Int32} (h : post (mt_nB x)) : wpX_namesB post () x := by
  unfold wpX_namesB
  unfold mt_nB at h
  refine ⟨fun z => ?_, fun z => ⟨fun y => ?_, fun y => ?_⟩⟩
  · rw [if_pos z] at h; exact h
  · rw [if_neg z, if_pos y] at h; exact h
  · rw [if_neg z, if_neg y] at h; exact h
theorem mt_nS_w {post : Int32 → Prop} {x : Int32} (h : post (mt_nS x)) : wpX_namesS post () x := by
  unfold wpX_namesS
  unfold mt_nS at h
  refine ⟨fun z => ?_, fun z => ⟨fun y => ?_, fun y => ?_⟩⟩
  · rw [if_pos z] at h; exact h
  · rw [if_neg z, if_pos y] at h; exact h
  · rw [if_neg z, if_neg y] at h; exact h
/-- no operand that the kind names is off -/
theorem mt_bad32 {post : Int32 → Prop} {k s : Int32} (hS : mt_nS k = 0 ∨ mt_off s = 0) (h : post 0) : wX_badOperands_32 post k s c a1 a2 a3 a4 a5 a6 a7 a8 a9 a10 a11 a12 a13 a14 a15 := by
  unfold wX_badOperands_32
  exact mt_nS_w (br_c (fun _ => h) (fun z => mt_off_w (hS.resolve_left z) (br_t rfl h)))
theorem mt_bad16 {post : Int32 → Prop} {k b s : Int32} (hB : mt_nB k = 0 ∨ mt_off b = 0) (hS : mt_nS k = 0 ∨ mt_off s = 0) (h : post 0) : wX_badOperands_16 post k b s c a1 a2 a3 a4 a5 a6 a7 a8 a9 a10 a11 a12 a13 a14 a15 := by
  unfold wX_badOperands_16
  exact mt_nB_w (br_c (fun _ => mt_bad32 hS h) (fun z => mt_off_w (hB.resolve_left z) (br_t rfl (mt_bad32 hS h))))
theorem mt_bad {post : Int32 → Prop} {k a b s : Int32} (hA : mt_nA k = 0 ∨ mt_off a = 0) (hB : mt_nB k = 0 ∨ mt_off b = 0) (hS : mt_nS k = 0 ∨ mt_off s = 0) (h : post 0) : wpX_badOperands post (c, a1, a2, a3, a4, a5, a6, a7, a8, a9, a10, a11, a12, a13, a14, a15) k a b s := by
  unfold wpX_badOperands
  exact mt_nA_w (br_c (fun _ => mt_bad16 hB hS h) (fun z => mt_off_w (hA.resolve_left z) (br_t rfl (mt_bad16 hB hS h))))
/-- the operand set -/
def mt_or (g x t : Int32) : Int32 := if g = 0 then x else x ||| ((1 : Int32) <<< (t &&& 31))
def mt_set (k a b s : Int32) : Int32 := if k = 7 then 0 else mt_or (mt_nS k) (mt_or (mt_nB k) (mt_or (mt_nA k) 0 a) b) s
theorem mt_set41 {post : Int32 → Prop} {k s x : Int32} (h : post (mt_or (mt_nS k) x s)) : wX_operandSet_41 post k s x := by
  unfold wX_operandSet_41
  unfold mt_or at h
  exact mt_nS_w (br_c (fun z => by rw [if_pos z] at h; exact h) (fun z => nm_e (by rw [if_neg z] at h; exact h)))
theorem mt_set26 {post : Int32 → Prop} {k b s x : Int32} (h : post (mt_or (mt_nS k) (mt_or (mt_nB k) x b) s)) : wX_operandSet_26 post k b s x := by
  unfold wX_operandSet_26
  unfold mt_or at h
  refine mt_nB_w (br_c (fun z => mt_set41 ?_) (fun z => nm_e (mt_set41 ?_)))
  · rw [if_pos z] at h; exact h
  · rw [if_neg z] at h; exact h
theorem mt_set_w {post : Int32 → Prop} {k a b s : Int32} (h : post (mt_set k a b s)) : wpX_operandSet post () k a b s := by
  unfold wpX_operandSet
  unfold mt_set at h
  refine br_c (fun z => by rw [if_pos z] at h; exact h) (fun z => ?_)
  rw [if_neg z] at h
  refine mt_nA_w (br_c (fun y => mt_set26 ?_) (fun y => nm_e (mt_set26 ?_)))
  · unfold mt_or at h ⊢
    rw [if_pos y] at h
    exact h
  · unfold mt_or at h ⊢
    rw [if_neg y] at h
    exact h
/-- the closure of a set -/
def mt_c24 (N : Nat → Int32) (x3 x2 : Int32) : Nat → Int32
  | 0 => x2
  | j + 1 => if ((x3 >>> (nI j &&& 31)) &&& 1) = 1 then mt_c24 N x3 x2 j ||| N j else mt_c24 N x3 x2 j
def mt_c7 (N : Nat → Int32) : Nat → Int32 → Int32 → Int32
  | 0, x2, _ => x2
  | m + 1, x2, x3 => if x2 = x3 then x2 else mt_c7 N m (mt_c24 N x2 x2 18) x2
theorem mt_c24_w {N : Nat → Int32} (hN : ∀ i, i < 18 → a6 i = N i) {post : Int32 → Prop} {J : Int32 → Int32 → Int32 → Prop} {x2 x3 x4 : Int32} (h : J (mt_c24 N x3 x2 18) x3 (x4 + 1)) : ∃ n, wX_closure_24 post J x3 x4 c a1 a2 a3 a4 a5 a6 a7 a8 a9 a10 a11 a12 a13 a14 a15 n x2 0 :=
  pk_loop (σ := Unit) (fun n i _ => wX_closure_24 post J x3 x4 c a1 a2 a3 a4 a5 a6 a7 a8 a9 a10 a11 a12 a13 a14 a15 n (mt_c24 N x3 x2 i) (nI i)) (fun _ _ => True) 18 0 () (by omega) trivial
    (fun n _ _ => pk_le 18 18 (fun _ => nm_e h) (fun z => absurd z (by omega)))
    (fun n i _ hi _ hw => pk_le 18 i (fun z => absurd z (by omega)) (fun _ => by
      have hw' := hw () trivial
      have e : mt_c24 N x3 x2 (i + 1) = if ((x3 >>> (nI i &&& 31)) &&& 1) = 1 then mt_c24 N x3 x2 i ||| N i else mt_c24 N x3 x2 i := rfl
      rw [e] at hw'
      refine br_c (fun z => ⟨pk_in i 18 hi, ?_⟩) (fun z => ?_)
      · rw [if_pos z] at hw'
        refine nm_r (by rw [nI_clamp (by omega), hN i hi]) (nm_r (nI_1 i) hw')
      · rw [if_neg z] at hw'
        exact nm_r (nI_1 i) hw'))
theorem mt_c7_w {N : Nat → Int32} (hN : ∀ i, i < 18 → a6 i = N i) {post : Int32 → Prop} : ∀ (m : Nat) (x2 x3 : Int32), m ≤ 18 → post (mt_c7 N m x2 x3) → wX_closure_7 post c a1 a2 a3 a4 a5 a6 a7 a8 a9 a10 a11 a12 a13 a14 a15 (m + 1) x2 x3 (nI (18 - m))
  | 0, x2, x3, _, h => pk_le 18 18 (fun _ => h) (fun z => absurd z (by omega))
  | m + 1, x2, x3, hm, h => by
    unfold mt_c7 at h
    refine pk_le 18 (18 - (m + 1)) (fun z => absurd z (by omega)) (fun _ => br_c (fun z => ?_) (fun z => mt_c24_w hN ?_))
    · rw [if_pos z] at h; exact h
    · rw [if_neg z] at h
      rw [nI_1, show 18 - (m + 1) + 1 = 18 - m by omega]
      exact mt_c7_w hN m _ _ (by omega) h
theorem mt_clo_w {N : Nat → Int32} (hN : ∀ i, i < 18 → a6 i = N i) {post : Int32 → Prop} {x : Int32} (h : post (mt_c7 N 18 x 0)) : wpX_closure post (c, a1, a2, a3, a4, a5, a6, a7, a8, a9, a10, a11, a12, a13, a14, a15) x := by
  unfold wpX_closure
  exact ⟨19, mt_c7_w hN 18 x 0 (by omega) h⟩
/-- how many -/
def mt_bs (x : Int32) : Nat → Int32
  | 0 => 0
  | j + 1 => mt_bs x j + ((x >>> (nI j &&& 31)) &&& 1)
theorem mt_bits_w {post : Int32 → Prop} {x : Int32} (h : post (mt_bs x 18)) : wpX_bits post () x := by
  unfold wpX_bits
  exact pk_loop (σ := Unit) (fun n i _ => wX_bits_4 post x n (mt_bs x i) (nI i)) (fun _ _ => True) 18 0 () (by omega) trivial
    (fun n _ _ => pk_le 18 18 (fun _ => h) (fun z => absurd z (by omega)))
    (fun n i _ hi _ hw => pk_le 18 i (fun z => absurd z (by omega)) (fun _ => nm_e (nm_r (nI_1 i) (hw () trivial))))
end
end
section
/-! the definitions by tables; compile() over them -/
def mt_u (f : Nat → Nat) (k v : Nat) : Nat → Nat := fun j => if j = k then v else f j
def mt_Def (K A B S : Nat → Nat) (N : Nat → Int32) (a1 a2 a3 a4 a6 : Nat → Int32) : Prop :=
  ∀ i, i < 18 → a1 i = nI (K i) ∧ a2 i = nI (A i) ∧ a3 i = nI (B i) ∧ a4 i = nI (S i) ∧ a6 i = N i
/-- a flow may be placed -/
def mt_rdy (N : Nat → Int32) (pl : Int32) (f : Nat) : Bool := decide (((pl >>> (nI f &&& 31)) &&& 1) = 0) && decide ((N f &&& (pl ^^^ (-1))) = 0)
/-- what is placed ahead of place i -/
def mt_P (O : Nat → Nat) : Nat → Int32
  | 0 => 0
  | i + 1 => mt_P O i ||| ((1 : Int32) <<< (nI (O i) &&& 31))
/-- O is the order that the first loop finds, Q its inverse; needs stand ahead; each kind but CONST is there once; a worked flow's first operand is no constant -/
def mt_Ok (K A B S : Nat → Nat) (N : Nat → Int32) (O Q : Nat → Nat) : Prop :=
  ∀ i, i < 18 → (A i < 18 ∧ B i < 18 ∧ S i < 18) ∧ (O i < 18 ∧ Q i < 18 ∧ Q (O i) = i ∧ O (Q i) = i) ∧
    (K i = 0 ∨ K i = 1 ∨ K i = 2 ∨ K i = 5 ∨ K i = 7 ∨ K i = 8) ∧ (∀ j, j < 18 → K i ≠ 1 → K j = K i → j = i) ∧
    (K i = 2 ∨ K i = 5 → Q (A i) < Q i ∧ Q (B i) < Q i ∧ K (A i) ≠ 1) ∧ (K i = 8 → Q (A i) < Q i ∧ Q (S i) < Q i) ∧
    (∀ f, f < O i → mt_rdy N (mt_P O i) f = false) ∧ (O i = 17 ∨ mt_rdy N (mt_P O i) (O i) = true)
/-- what compile() leaves: the order; the constant flows are the numbers; nothing is shared -/
def mt_Cmp (K O : Nat → Nat) (a5 a7 a8 a9 a10 : Nat → Int32) : Prop :=
  ∀ i, i < 18 → a7 i = nI (O i) ∧ a8 i = (if K i = 1 then 1 else 0) ∧ (K i = 1 → a9 i = a5 i) ∧ a10 i = nI i
theorem mt_nar0 : vp_nar .boolean 0 = 0 := by rfl
theorem mt_nar1 : vp_nar .boolean 1 = 1 := by rfl
section
variable {c : Int32} {a1 a2 a3 a4 a5 a6 a7 a8 a9 a10 a11 a12 a13 a14 a15 : Nat → Int32}
theorem mt_rdy_w {N : Nat → Int32} {post : Int32 → Prop} {pl : Int32} {f : Nat} (hf : f < 18) (hN : a6 f = N f) (h : post (if mt_rdy N pl f = true then 1 else 0)) : wpX_readyToPlace post (c, a1, a2, a3, a4, a5, a6, a7, a8, a9, a10, a11, a12, a13, a14, a15) (nI f) pl := by
  unfold wpX_readyToPlace
  dsimp only
  rw [nI_clamp (show f < 2 ^ 31 by omega), hN]
  unfold mt_rdy at h
  refine br_c (fun z => ⟨pk_in f 18 hf, br_c (fun y => ?_) (fun y => ?_)⟩) (fun z => ?_)
  · rw [decide_eq_true z, decide_eq_true y] at h; exact h
  · rw [decide_eq_true z, decide_eq_false y] at h; exact h
  · rw [decide_eq_false z] at h; exact h
theorem mt_c12_w {N : Nat → Int32} (hN : ∀ i, i < 18 → a6 i = N i) {post : St2 → Prop} {J : Int32 → Int32 → (Nat → Int32) → (Nat → Int32) → (Nat → Int32) → (Nat → Int32) → (Nat → Int32) → (Nat → Int32) → (Nat → Int32) → (Nat → Int32) → (Nat → Int32) → (Nat → Int32) → (Nat → Int32) → (Nat → Int32) → (Nat → Int32) → (Nat → Int32) → (Nat → Int32) → Prop} {pl x2 : Int32} {o : Nat} (ho : o < 18)
    (h1 : ∀ f, f < o → mt_rdy N pl f = false) (h2 : o = 17 ∨ mt_rdy N pl o = true)
    (H : wX_compile_33 post J pl x2 (nI o) c a1 a2 a3 a4 a5 a6 a7 a8 a9 a10 a11 a12 a13 a14 a15) :
    ∃ n, wX_compile_12 post J pl x2 c a1 a2 a3 a4 a5 a6 a7 a8 a9 a10 a11 a12 a13 a14 a15 n 0 :=
  pk_loop (σ := Unit) (fun n i _ => wX_compile_12 post J pl x2 c a1 a2 a3 a4 a5 a6 a7 a8 a9 a10 a11 a12 a13 a14 a15 n (nI i)) (fun _ _ => True) o 0 () (by omega) trivial
    (fun n _ _ => pk_le 17 o (fun _ => H) (fun z => mt_rdy_w (N := N) (by omega) (hN o ho) (by
      rw [if_pos (h2.resolve_left (by omega))]
      exact br_f (by decide) H)))
    (fun n i _ hi _ hw => pk_le 17 i (fun z => absurd z (by omega)) (fun z => mt_rdy_w (N := N) (by omega) (hN i (by omega)) (by
      rw [h1 i hi]
      exact br_t rfl (nm_r (nI_1 i) (hw () trivial)))))
theorem mt_fill {f s : Nat → Int32} {i k : Nat} {x : Int32} (hk : k = i) (h : ∀ j, j < i → s j = f j) (hx : x = f i) : ∀ j, j < i + 1 → upd s k x j = f j := by
  intro j hj
  rw [hk]
  by_cases e : j = i
  · rw [e, pk_us, hx]
  · rw [pk_un e]
    exact h j (by omega)
/-- the first loop: the order -/
theorem mt_c4_w {N : Nat → Int32} (hN : ∀ i, i < 18 → a6 i = N i) {O : Nat → Nat} {post : St2 → Prop} (hO : ∀ i, i < 18 → O i < 18)
    (h1 : ∀ i, i < 18 → ∀ f, f < O i → mt_rdy N (mt_P O i) f = false) (h2 : ∀ i, i < 18 → O i = 17 ∨ mt_rdy N (mt_P O i) (O i) = true)
    (H : ∀ b7, (∀ i, i < 18 → b7 i = nI (O i)) → ∃ n, wX_compile_54 post n 0 c a1 a2 a3 a4 a5 a6 b7 a8 a9 a10 a11 a12 a13 a14 a15) :
    ∃ n, wX_compile_4 post c n 0 0 a1 a2 a3 a4 a5 a6 a7 a8 a9 a10 a11 a12 a13 a14 a15 :=
  pk_loop (fun n i s => wX_compile_4 post c n (mt_P O i) (nI i) a1 a2 a3 a4 a5 a6 s a8 a9 a10 a11 a12 a13 a14 a15) (fun i s => ∀ j, j < i → s j = nI (O j)) 18 0 a7 (by omega) (fun j hj => absurd hj (by omega))
    (fun n s h => pk_le 18 18 (fun _ => H s h) (fun z => absurd z (by omega)))
    (fun n i s hi h hw => pk_le 18 i (fun z => absurd z (by omega)) (fun _ => mt_c12_w hN (hO i hi) (h1 i hi) (h2 i hi) (by
      unfold wX_compile_33
      exact ⟨pk_in i 18 hi, nm_e (nm_e (nm_r (nI_1 i) (hw _ (mt_fill (f := fun j => nI (O j)) (nI_clamp (by omega)) h rfl))))⟩)))
/-- fold(f) -/
theorem mt_f113 {post : St2 → Prop} {f : Nat} {x : Int32} (hf : f < 18) (h0 : a8 f = 0) (H : post (c, a1, a2, a3, a4, a5, a6, a7, a8, a9, a10, a11, a12, a13, a14, a15)) : wX_fold_113 post (nI f) x c a1 a2 a3 a4 a5 a6 a7 a8 a9 a10 a11 a12 a13 a14 a15 := by
  unfold wX_fold_113
  rw [nI_clamp (show f < 2 ^ 31 by omega)]
  exact ⟨pk_in f 18 hf, br_t h0 H⟩
theorem mt_fold {post : St2 → Prop} {K A B S : Nat → Nat} {N : Nat → Int32} (hD : mt_Def K A B S N a1 a2 a3 a4 a6) {f : Nat} (hf : f < 18) (hb : A f < 18 ∧ B f < 18 ∧ S f < 18)
    (hk : K f = 0 ∨ K f = 1 ∨ K f = 2 ∨ K f = 5 ∨ K f = 7 ∨ K f = 8) (hc : K f = 2 ∨ K f = 5 → a8 (A f) = 0)
    (H : ∀ b8 b9, (∀ g, g ≠ f → b8 g = a8 g) → b8 f = (if K f = 1 then 1 else 0) → (∀ g, g ≠ f → b9 g = a9 g) → (K f = 1 → b9 f = a5 f) → post (c, a1, a2, a3, a4, a5, a6, a7, b8, b9, a10, a11, a12, a13, a14, a15)) :
    wpX_fold post (c, a1, a2, a3, a4, a5, a6, a7, a8, a9, a10, a11, a12, a13, a14, a15) (nI f) := by
  obtain ⟨e1, e2, e3, e4, _⟩ := hD f hf
  have ef : (nI f).toNatClampNeg = f := nI_clamp (by omega)
  have eA : (nI (A f)).toNatClampNeg = A f := nI_clamp (by omega)
  have H0 : K f ≠ 1 → ∀ b8, (∀ g, g ≠ f → b8 g = a8 g) → b8 f = 0 → post (c, a1, a2, a3, a4, a5, a6, a7, b8, a9, a10, a11, a12, a13, a14, a15) :=
    fun hn b8 h1 h2 => H b8 a9 h1 (by rw [if_neg hn]; exact h2) (fun _ _ => rfl) (fun z => absurd z hn)
  have F0 : K f ≠ 1 → ((nI (K f) < 2) ∨ 6 < nI (K f)) → wX_fold_22 post (nI f) (nI (K f)) 0 (nI f) c a1 a2 a3 a4 a5 a6 a7 a8 a9 a10 a11 a12 a13 a14 a15 := by
    intro hn hh
    unfold wX_fold_22
    rw [ef, mt_nar0]
    refine ⟨pk_in f 18 hf, nm_e ?_⟩
    refine br_c (fun z => mt_f113 hf pk_us (H0 hn _ (fun g hg => pk_un hg) pk_us)) (fun z => br_t (hh.resolve_left z) (mt_f113 hf pk_us (H0 hn _ (fun g hg => pk_un hg) pk_us)))
  have F2 : (K f = 2 ∨ K f = 5) → ¬ nI (K f) < 2 → ¬ 6 < nI (K f) → ¬ nI (K f) = 6 → wX_fold_22 post (nI f) (nI (K f)) 0 (nI f) c a1 a2 a3 a4 a5 a6 a7 a8 a9 a10 a11 a12 a13 a14 a15 := by
    intro hh g1 g2 g3
    have hn : K f ≠ 1 := by omega
    unfold wX_fold_22
    rw [ef, mt_nar0]
    refine ⟨pk_in f 18 hf, nm_e (br_f g1 (br_f g2 ⟨pk_in f 18 hf, ?_⟩))⟩
    rw [e2, eA]
    refine ⟨pk_in (A f) 18 hb.1, br_t ?_ ?_⟩
    · by_cases e : A f = f
      · rw [e]; exact pk_us
      · rw [pk_un e]; exact hc hh
    · unfold wX_fold_71 wX_fold_72
      rw [ef, mt_nar0]
      refine ⟨pk_in f 18 hf, nm_e (br_f g3 (mt_f113 hf pk_us (H0 hn _ (fun g hg => ?_) pk_us)))⟩
      rw [pk_un hg, pk_un hg]
  unfold wpX_fold
  refine ⟨pk_in f 18 hf, nm_r (show a1 (nI f).toNatClampNeg = nI (K f) by rw [ef]; exact e1) ?_⟩
  rcases hk with k | k | k | k | k | k
  · rw [k] at F0 ⊢
    exact br_f (by decide) (F0 (by decide) (Or.inl (by decide)))
  · rw [k]
    refine br_t (by decide) ?_
    unfold wX_fold_22
    rw [ef, mt_nar1]
    refine ⟨pk_in f 18 hf, nm_e (br_t (by decide) ?_)⟩
    unfold wX_fold_113
    rw [ef, e2, e3, e4]
    refine ⟨pk_in f 18 hf, br_f (by rw [pk_us]; decide) ⟨pk_in f 18 hf, pk_in (A f) 18 hb.1, nm_e ⟨pk_in f 18 hf, pk_in (B f) 18 hb.2.1, nm_e ⟨pk_in f 18 hf, pk_in (S f) 18 hb.2.2, nm_e (br_t (by decide) ⟨pk_in f 18 hf, pk_in f 18 hf, nm_e ?_⟩)⟩⟩⟩⟩
    exact H _ _ (fun g hg => pk_un hg) (by rw [pk_us, if_pos k]) (fun g hg => pk_un hg) (fun _ => pk_us)
  · have F := F2 (Or.inl k)
    rw [k] at F ⊢
    exact br_f (by decide) (F (by decide) (by decide) (by decide))
  · have F := F2 (Or.inr k)
    rw [k] at F ⊢
    exact br_f (by decide) (F (by decide) (by decide) (by decide))
  · rw [k] at F0 ⊢
    exact br_f (by decide) (F0 (by decide) (Or.inr (by decide)))
  · rw [k] at F0 ⊢
    exact br_f (by decide) (F0 (by decide) (Or.inr (by decide)))
/-- share(i): no flow ahead is of the same kind -/
theorem mt_alike {post : Int32 → Prop} {K : Nat → Nat} {f g : Nat} (hf : f < 18) (hg : g < 18) (h1 : ∀ i, i < 18 → a1 i = nI (K i)) (hK : ∀ i, i < 18 → K i ≤ 8) (hn : K g ≠ K f) (h : post 0) : wpX_definedAlike post (c, a1, a2, a3, a4, a5, a6, a7, a8, a9, a10, a11, a12, a13, a14, a15) (nI g) (nI f) := by
  have k1 := hK f hf
  have k2 := hK g hg
  unfold wpX_definedAlike
  rw [nI_clamp (show f < 2 ^ 31 by omega), nI_clamp (show g < 2 ^ 31 by omega)]
  refine ⟨pk_in f 18 hf, nm_e ⟨pk_in g 18 hg, br_f ?_ h⟩⟩
  rw [h1 f hf, h1 g hg]
  intro z
  exact hn ((nI_eq (by omega) (by omega)).mp z)
theorem mt_s50 {post : St2 → Prop} {K O : Nat → Nat} {f i : Nat} (hf : f < 18) (hi : i < 18) (h1 : ∀ i, i < 18 → a1 i = nI (K i)) (hK : ∀ i, i < 18 → K i ≤ 8) (h7 : ∀ i, i < 18 → a7 i = nI (O i)) (hO : ∀ i, i < 18 → O i < 18) (hn : ∀ j, j < i → K (O j) ≠ K f)
    (H : post (c, a1, a2, a3, a4, a5, a6, a7, a8, a9, a10, a11, a12, a13, a14, a15)) : wX_share_50 post (nI f) c (i + 1) (nI i - 1) a1 a2 a3 a4 a5 a6 a7 a8 a9 a10 a11 a12 a13 a14 a15 :=
  pk_loopD (σ := Unit) (fun n j _ => wX_share_50 post (nI f) c n (nI j - 1) a1 a2 a3 a4 a5 a6 a7 a8 a9 a10 a11 a12 a13 a14 a15) (fun j _ => j ≤ i)
    (fun n _ _ => br_t (by decide) H)
    (fun n j _ hj hw => by
      have hw' := hw () (by omega)
      rw [nI_pred]
      refine br_f (nI_pos (by omega)) ⟨pk_in j 18 (by omega), ?_⟩
      rw [nI_clamp (show j < 2 ^ 31 by omega), h7 j (by omega)]
      refine mt_alike hf (hO j (by omega)) h1 hK (hn j (by omega)) (br_t rfl (nm_r ?_ hw'))
      rw [Int32.sub_eq_add_neg]) i () (Nat.le_refl i)
theorem mt_share {post : St2 → Prop} {K O : Nat → Nat} {i : Nat} (hi : i < 18) (h1 : ∀ i, i < 18 → a1 i = nI (K i)) (hK : ∀ i, i < 18 → K i ≤ 8) (h7 : ∀ i, i < 18 → a7 i = nI (O i)) (hO : ∀ i, i < 18 → O i < 18) (h8 : a8 (O i) = (if K (O i) = 1 then 1 else 0)) (hn : K (O i) ≠ 1 → ∀ j, j < i → K (O j) ≠ K (O i))
    (H : post (c, a1, a2, a3, a4, a5, a6, a7, a8, a9, upd a10 (O i) (nI (O i)), a11, a12, a13, a14, a15)) : wpX_share post (c, a1, a2, a3, a4, a5, a6, a7, a8, a9, a10, a11, a12, a13, a14, a15) (nI i) := by
  have hf := hO i hi
  unfold wpX_share
  refine ⟨pk_in i 18 hi, nm_r (show a7 (nI i).toNatClampNeg = nI (O i) by rw [nI_clamp (by omega)]; exact h7 i hi) ?_⟩
  rw [nI_clamp (show O i < 2 ^ 31 by omega)]
  refine ⟨pk_in (O i) 18 hf, nm_e ⟨pk_in (O i) 18 hf, br_c (fun _ => H) (fun _ => ⟨pk_in (O i) 18 hf, br_c (fun _ => H) (fun _ => ⟨pk_in (O i) 18 hf, br_c (fun z => nm_e ?_) (fun _ => H)⟩)⟩)⟩⟩
  have hne : K (O i) ≠ 1 := by
    intro e
    rw [h8, if_pos e] at z
    exact absurd z (by decide)
  exact ⟨i + 1, mt_s50 hf hi h1 hK h7 hO (hn hne) H⟩
/-- the second loop -/
theorem mt_c54_w {K A B S : Nat → Nat} {N : Nat → Int32} {O Q : Nat → Nat} (hD : mt_Def K A B S N a1 a2 a3 a4 a6) (hO : mt_Ok K A B S N O Q) (h7 : ∀ i, i < 18 → a7 i = nI (O i)) {post : St2 → Prop}
    (H : ∀ b8 b9 b10, mt_Cmp K O a5 a7 b8 b9 b10 → post (c, a1, a2, a3, a4, a5, a6, a7, b8, b9, b10, a11, a12, a13, a14, a15)) :
    ∃ n, wX_compile_54 post n 0 c a1 a2 a3 a4 a5 a6 a7 a8 a9 a10 a11 a12 a13 a14 a15 := by
  have hK : ∀ i, i < 18 → K i ≤ 8 := fun i hi => by
    have := (hO i hi).2.2.1
    omega
  have h1 : ∀ i, i < 18 → a1 i = nI (K i) := fun i hi => (hD i hi).1
  have hOl : ∀ i, i < 18 → O i < 18 := fun i hi => (hO i hi).2.1.1
  refine pk_loop (σ := (Nat → Int32) × (Nat → Int32) × (Nat → Int32)) (fun n i s => wX_compile_54 post n (nI i) c a1 a2 a3 a4 a5 a6 a7 s.1 s.2.1 s.2.2 a11 a12 a13 a14 a15)
    (fun i s => ∀ f, f < 18 → Q f < i → s.1 f = (if K f = 1 then 1 else 0) ∧ (K f = 1 → s.2.1 f = a5 f) ∧ s.2.2 f = nI f) 18 0 (a8, a9, a10) (by omega) (fun f _ hq => absurd hq (by omega)) ?_ ?_
  · intro n s h
    exact pk_le 18 18 (fun _ => H _ _ _ (fun i hi => ⟨h7 i hi, h i hi (hO i hi).2.1.2.1⟩)) (fun z => absurd z (by omega))
  · intro n i s hi h hw
    obtain ⟨b8, b9, b10⟩ := s
    dsimp only at h hw ⊢
    obtain ⟨ho, _, hqo, _⟩ := (hO i hi).2.1
    obtain ⟨hb, _, hk, hu, hab, _, _⟩ := hO (O i) ho
    rw [hqo] at hab
    refine pk_le 18 i (fun z => absurd z (by omega)) (fun _ => ⟨pk_in i 18 hi, ?_⟩)
    rw [nI_clamp (show i < 2 ^ 31 by omega), h7 i hi]
    refine mt_fold hD ho hb hk (fun z => ?_) (fun d8 d9 g1 g2 g3 g4 => ?_)
    · obtain ⟨q1, _, q3⟩ := hab z
      rw [(h (A (O i)) hb.1 q1).1, if_neg q3]
    · refine mt_share hi h1 hK h7 hOl g2 (fun hne j hj e => ?_) (nm_r (nI_1 i) (hw (d8, d9, upd b10 (O i) (nI (O i))) (fun f hf hq => ?_)))
      · have e2 := hu (O j) (hOl j (by omega)) hne e
        have e3 := (hO j (by omega)).2.1.2.2.1
        rw [e2, hqo] at e3
        omega
      · dsimp only
        by_cases e : f = O i
        · rw [e]
          exact ⟨g2, g4, pk_us⟩
        · have hq' : Q f < i := by
            rcases Nat.lt_or_ge (Q f) i with z | z
            · exact z
            · exfalso
              have e4 := (hO f hf).2.1.2.2.2
              rw [show Q f = i by omega] at e4
              exact e e4.symm
          rw [g1 f e, g3 f e, pk_un e]
          exact h f hf hq'
theorem mt_compile {K A B S : Nat → Nat} {N : Nat → Int32} {O Q : Nat → Nat} (hD : mt_Def K A B S N a1 a2 a3 a4 a6) (hO : mt_Ok K A B S N O Q) {post : St2 → Prop}
    (H : ∀ b7 b8 b9 b10, mt_Cmp K O a5 b7 b8 b9 b10 → post (c, a1, a2, a3, a4, a5, a6, b7, b8, b9, b10, a11, a12, a13, a14, a15)) :
    wpX_compile post (c, a1, a2, a3, a4, a5, a6, a7, a8, a9, a10, a11, a12, a13, a14, a15) := by
  unfold wpX_compile
  exact mt_c4_w (N := N) (O := O) (fun i hi => (hD i hi).2.2.2.2) (fun i hi => (hO i hi).2.1.1) (fun i hi => (hO i hi).2.2.2.2.2.2.1) (fun i hi => (hO i hi).2.2.2.2.2.2.2)
    (fun b7 h7 => mt_c54_w hD hO h7 (fun b8 b9 b10 h => H b7 b8 b9 b10 h))
end
end
section
/-! define(): what it asks, by closed tables -/
def mt_Pre (K A B S : Nat → Nat) (N : Nat → Int32) (K' A' B' S' : Nat → Nat) (N' : Nat → Int32) (f k : Nat) (ops set r : Int32) : Prop :=
  f < 18 ∧ k ≤ 8 ∧ (mt_nA (nI k) = 0 ∨ mt_off (ops &&& 31) = 0) ∧ (mt_nB (nI k) = 0 ∨ mt_off ((ops >>> ((5 : Int32) &&& 31)) &&& 31) = 0) ∧ (mt_nS (nI k) = 0 ∨ mt_off ((ops >>> ((10 : Int32) &&& 31)) &&& 31) = 0) ∧
  mt_set (nI k) (ops &&& 31) ((ops >>> ((5 : Int32) &&& 31)) &&& 31) ((ops >>> ((10 : Int32) &&& 31)) &&& 31) = set ∧
  ¬ ((mt_c7 N 18 set 0 >>> (nI f &&& 31)) &&& 1) = 1 ∧ mt_bs (mt_c7 N 18 set 0) 18 = r ∧
  (K' f = k ∧ (if mt_nA (nI k) = 0 then 0 else ops &&& 31) = nI (A' f) ∧ (if mt_nB (nI k) = 0 then 0 else (ops >>> ((5 : Int32) &&& 31)) &&& 31) = nI (B' f) ∧ (if mt_nS (nI k) = 0 then 0 else (ops >>> ((10 : Int32) &&& 31)) &&& 31) = nI (S' f) ∧ N' f = set) ∧
  (∀ i, i < 18 → i ≠ f → K' i = K i ∧ A' i = A i ∧ B' i = B i ∧ S' i = S i ∧ N' i = N i)
section
variable {c : Int32} {a1 a2 a3 a4 a5 a6 a7 a8 a9 a10 a11 a12 a13 a14 a15 : Nat → Int32}
theorem mt_d161 {post : Int32 → St2 → Prop} {K A B S : Nat → Nat} {N : Nat → Int32} {O Q : Nat → Nat} {f : Nat} {num set all z : Int32} (hf : f < 18)
    (hD : mt_Def K A B S N a1 a2 a3 (upd a4 f z) (upd a6 f set)) (hO : mt_Ok K A B S N O Q)
    (H : ∀ b7 b8 b9 b10, mt_Cmp K O (upd a5 f num) b7 b8 b9 b10 → post (mt_bs all 18) (c, a1, a2, a3, upd a4 f z, upd a5 f num, upd a6 f set, b7, b8, b9, b10, a11, a12, upd a13 f 1, a14, a15)) :
    wX_define_161 post (nI f) num set all z (nI f) c a1 a2 a3 a4 a5 a6 a7 a8 a9 a10 a11 a12 a13 a14 a15 := by
  unfold wX_define_161
  rw [nI_clamp (show f < 2 ^ 31 by omega)]
  exact ⟨pk_in f 18 hf, nm_e ⟨pk_in f 18 hf, nm_e ⟨pk_in f 18 hf, nm_e ⟨pk_in f 18 hf, nm_e (mt_compile hD hO (fun b7 b8 b9 b10 h => mt_bits_w (H b7 b8 b9 b10 h)))⟩⟩⟩⟩
theorem mt_d142 {post : Int32 → St2 → Prop} {f : Nat} {k num s set all z : Int32} (hf : f < 18)
    (H : wX_define_161 post (nI f) num set all (if mt_nS k = 0 then 0 else s) (nI f) c a1 a2 (upd a3 f z) a4 a5 a6 a7 a8 a9 a10 a11 a12 a13 a14 a15) :
    wX_define_142 post (nI f) k num s set all z (nI f) c a1 a2 a3 a4 a5 a6 a7 a8 a9 a10 a11 a12 a13 a14 a15 := by
  unfold wX_define_142
  rw [nI_clamp (show f < 2 ^ 31 by omega)]
  refine ⟨pk_in f 18 hf, nm_e (mt_nS_w (br_c (fun e => ?_) (fun e => ?_)))⟩
  · rw [if_pos e] at H; exact H
  · rw [if_neg e] at H; exact H
theorem mt_d123 {post : Int32 → St2 → Prop} {f : Nat} {k num b s set all z : Int32} (hf : f < 18)
    (H : wX_define_142 post (nI f) k num s set all (if mt_nB k = 0 then 0 else b) (nI f) c a1 (upd a2 f z) a3 a4 a5 a6 a7 a8 a9 a10 a11 a12 a13 a14 a15) :
    wX_define_123 post (nI f) k num b s set all z (nI f) c a1 a2 a3 a4 a5 a6 a7 a8 a9 a10 a11 a12 a13 a14 a15 := by
  unfold wX_define_123
  rw [nI_clamp (show f < 2 ^ 31 by omega)]
  refine ⟨pk_in f 18 hf, nm_e (mt_nB_w (br_c (fun e => ?_) (fun e => ?_)))⟩
  · rw [if_pos e] at H; exact H
  · rw [if_neg e] at H; exact H
theorem mt_define {post : Int32 → St2 → Prop} {K A B S : Nat → Nat} {N : Nat → Int32} (hD : mt_Def K A B S N a1 a2 a3 a4 a6) (f k : Nat) {ops num set r : Int32} {K' A' B' S' : Nat → Nat} {N' : Nat → Int32} {O Q : Nat → Nat}
    (hP : mt_Pre K A B S N K' A' B' S' N' f k ops set r) (hO : mt_Ok K' A' B' S' N' O Q)
    (H : ∀ b1 b2 b3 b4 b6 b7 b8 b9 b10, mt_Def K' A' B' S' N' b1 b2 b3 b4 b6 → mt_Cmp K' O (upd a5 f num) b7 b8 b9 b10 → post r (c, b1, b2, b3, b4, upd a5 f num, b6, b7, b8, b9, b10, a11, a12, upd a13 f 1, a14, a15)) :
    wpX_define post (c, a1, a2, a3, a4, a5, a6, a7, a8, a9, a10, a11, a12, a13, a14, a15) (nI f) (nI k) ops num := by
  obtain ⟨hf, hk, hA, hB, hS, hset, hcirc, hr, ⟨f1, f2, f3, f4, f5⟩, hne⟩ := hP
  have hD' : mt_Def K' A' B' S' N' (upd a1 f (nI k)) (upd a2 f (if mt_nA (nI k) = 0 then 0 else ops &&& 31)) (upd a3 f (if mt_nB (nI k) = 0 then 0 else (ops >>> ((5 : Int32) &&& 31)) &&& 31)) (upd a4 f (if mt_nS (nI k) = 0 then 0 else (ops >>> ((10 : Int32) &&& 31)) &&& 31)) (upd a6 f set) := by
    intro i hi
    by_cases e : i = f
    · rw [e, pk_us, pk_us, pk_us, pk_us, pk_us, f1]
      exact ⟨rfl, f2, f3, f4, f5.symm⟩
    · rw [pk_un e, pk_un e, pk_un e, pk_un e, pk_un e]
      obtain ⟨g1, g2, g3, g4, g5⟩ := hne i hi e
      rw [g1, g2, g3, g4, g5]
      exact hD i hi
  have hN : ∀ i, i < 18 → a6 i = N i := fun i hi => (hD i hi).2.2.2.2
  have main : ∀ z, z = (if mt_nA (nI k) = 0 then 0 else ops &&& 31) → wX_define_123 post (nI f) (nI k) num ((ops >>> ((5 : Int32) &&& 31)) &&& 31) ((ops >>> ((10 : Int32) &&& 31)) &&& 31) set (mt_c7 N 18 set 0) z (nI f) c (upd a1 f (nI k)) a2 a3 a4 a5 a6 a7 a8 a9 a10 a11 a12 a13 a14 a15 := by
    intro z ez
    subst ez
    refine mt_d123 hf (mt_d142 hf (mt_d161 hf hD' hO (fun b7 b8 b9 b10 h => ?_)))
    rw [hr]
    exact H _ _ _ _ _ b7 b8 b9 b10 hD' h
  unfold wpX_define
  refine mt_off_w (mt_off_n f hf) (br_t rfl (br_f (nI_pos (by omega)) (br_t (nI_le hk (by decide)) (nm_e (nm_e (nm_e (mt_bad hA hB hS (br_t rfl (mt_set_w ?_)))))))))
  rw [hset]
  refine mt_clo_w hN (br_f hcirc ⟨pk_in f 18 hf, ?_⟩)
  rw [nI_clamp (show f < 2 ^ 31 by omega)]
  refine nm_e (mt_nA_w (br_c (fun e => main 0 ?_) (fun e => main _ ?_)))
  · rw [if_pos e]
  · rw [if_neg e]
/-- a circle: nothing changes -/
theorem mt_circle {post : Int32 → St2 → Prop} {N : Nat → Int32} (hN : ∀ i, i < 18 → a6 i = N i) (f k : Nat) {ops num : Int32}
    (hP : f < 18 ∧ k ≤ 8 ∧ (mt_nA (nI k) = 0 ∨ mt_off (ops &&& 31) = 0) ∧ (mt_nB (nI k) = 0 ∨ mt_off ((ops >>> ((5 : Int32) &&& 31)) &&& 31) = 0) ∧ (mt_nS (nI k) = 0 ∨ mt_off ((ops >>> ((10 : Int32) &&& 31)) &&& 31) = 0) ∧
      ((mt_c7 N 18 (mt_set (nI k) (ops &&& 31) ((ops >>> ((5 : Int32) &&& 31)) &&& 31) ((ops >>> ((10 : Int32) &&& 31)) &&& 31)) 0 >>> (nI f &&& 31)) &&& 1) = 1)
    (H : post (-3) (c, a1, a2, a3, a4, a5, a6, a7, a8, a9, a10, a11, a12, a13, a14, a15)) :
    wpX_define post (c, a1, a2, a3, a4, a5, a6, a7, a8, a9, a10, a11, a12, a13, a14, a15) (nI f) (nI k) ops num := by
  obtain ⟨hf, hk, hA, hB, hS, hcirc⟩ := hP
  unfold wpX_define
  exact mt_off_w (mt_off_n f hf) (br_t rfl (br_f (nI_pos (by omega)) (br_t (nI_le hk (by decide)) (nm_e (nm_e (nm_e (mt_bad hA hB hS (br_t rfl (mt_set_w (mt_clo_w hN (br_t hcirc H)))))))))))
end
end
section
/-! work(), workAll(), finish(): an instant -/
def mt_Eq (K A B S : Nat → Nat) (a5 a11 a12 a13 v : Nat → Int32) (f : Nat) : Prop :=
  (K f = 0 → v f = a11 (a5 f &&& 3).toNatClampNeg) ∧ (K f = 1 → v f = a5 f) ∧ (K f = 2 → v f = v (A f) + v (B f)) ∧ (K f = 5 → v f = if v (B f) ≤ v (A f) then 0 else 1) ∧
  (K f = 7 → v f = if a13 f = 0 then a12 f else a5 f) ∧ (K f = 8 → v f = if v (S f) = 0 then (if a13 f = 0 then a12 f else a5 f) else v (A f))
theorem mt_comb2 {post : Int32 → Prop} {a b s : Int32} (h : post (a + b)) : wpX_combine post () (nI 2) a b s := by
  unfold wpX_combine
  exact br_f (by decide) (br_f (by decide) (br_t (by decide) h))
theorem mt_comb5 {post : Int32 → Prop} {a b s : Int32} (h : post (if b ≤ a then 0 else 1)) : wpX_combine post () (nI 5) a b s := by
  unfold wpX_combine
  refine br_f (by decide) (br_f (by decide) (br_f (by decide) (br_f (by decide) (br_f (by decide) (br_t (by decide) (br_c (fun z => ?_) (fun z => ?_)))))))
  · rw [if_pos z] at h; exact h
  · rw [if_neg z] at h; exact h
section
variable {c : Int32} {a1 a2 a3 a4 a5 a6 a7 a8 a9 a10 a11 a12 a13 a14 a15 : Nat → Int32}
theorem mt_work {post : Int32 → Prop} {K A B S : Nat → Nat} {N : Nat → Int32} (hD : mt_Def K A B S N a1 a2 a3 a4 a6) {f : Nat} (hf : f < 18) (hb : A f < 18 ∧ B f < 18 ∧ S f < 18)
    (hk : K f = 0 ∨ K f = 1 ∨ K f = 2 ∨ K f = 5 ∨ K f = 7 ∨ K f = 8) (hk1 : K f ≠ 1) {v : Nat → Int32} (hE : mt_Eq K A B S a5 a11 a12 a13 v f)
    (h25 : K f = 2 ∨ K f = 5 → a14 (A f) = v (A f) ∧ a14 (B f) = v (B f)) (h8 : K f = 8 → a14 (A f) = v (A f) ∧ a14 (S f) = v (S f)) (h : post (v f)) :
    wpX_work post (c, a1, a2, a3, a4, a5, a6, a7, a8, a9, a10, a11, a12, a13, a14, a15) (nI f) := by
  obtain ⟨e1, e2, e3, e4, _⟩ := hD f hf
  obtain ⟨E0, _, E2, E5, E7, E8⟩ := hE
  have pf := pk_in (x := nI f) f 18 hf
  unfold wpX_work
  dsimp only
  rw [nI_clamp (show f < 2 ^ 31 by omega), e1, e2, e3, e4, nI_clamp (show A f < 2 ^ 31 by omega), nI_clamp (show B f < 2 ^ 31 by omega), nI_clamp (show S f < 2 ^ 31 by omega)]
  refine ⟨pf, nm_e ?_⟩
  rcases hk with k | k | k | k | k | k
  · rw [E0 k] at h
    rw [k]
    exact br_t (by decide) ⟨pf, pk_andIn _ 2 (by decide) (by decide), h⟩
  · exact absurd k hk1
  · rw [E2 k, ← (h25 (Or.inl k)).1, ← (h25 (Or.inl k)).2] at h
    rw [k]
    exact br_f (by decide) (br_f (by decide) ⟨pf, pk_in (A f) 18 hb.1, nm_e ⟨pf, pk_in (S f) 18 hb.2.2, nm_e (br_f (by decide) ⟨pf, pk_in (B f) 18 hb.2.1, mt_comb2 h⟩)⟩⟩)
  · rw [E5 k, ← (h25 (Or.inr k)).1, ← (h25 (Or.inr k)).2] at h
    rw [k]
    exact br_f (by decide) (br_f (by decide) ⟨pf, pk_in (A f) 18 hb.1, nm_e ⟨pf, pk_in (S f) 18 hb.2.2, nm_e (br_f (by decide) ⟨pf, pk_in (B f) 18 hb.2.1, mt_comb5 h⟩)⟩⟩)
  · rw [E7 k] at h
    rw [k]
    refine br_f (by decide) (br_t (by decide) ⟨pf, br_c (fun z => ⟨pf, ?_⟩) (fun z => ⟨pf, ?_⟩)⟩)
    · rw [if_pos z] at h; exact h
    · rw [if_neg z] at h; exact h
  · rw [E8 k, ← (h8 k).1, ← (h8 k).2] at h
    rw [k]
    refine br_f (by decide) (br_f (by decide) ⟨pf, pk_in (A f) 18 hb.1, nm_e ⟨pf, pk_in (S f) 18 hb.2.2, nm_e (br_t (by decide) (br_c (fun y => ⟨pf, br_c (fun z => ⟨pf, ?_⟩) (fun z => ⟨pf, ?_⟩)⟩) (fun y => ?_)))⟩⟩)
    · rw [if_pos y, if_pos z] at h; exact h
    · rw [if_pos y, if_neg z] at h; exact h
    · rw [if_neg y] at h; exact h
theorem mt_workAll {post : St2 → Prop} {K A B S : Nat → Nat} {N : Nat → Int32} {O Q : Nat → Nat} (hD : mt_Def K A B S N a1 a2 a3 a4 a6) (hO : mt_Ok K A B S N O Q) (hC : mt_Cmp K O a5 a7 a8 a9 a10) {v : Nat → Int32} (hE : ∀ f, f < 18 → mt_Eq K A B S a5 a11 a12 a13 v f)
    (H : ∀ b14, (∀ i, i < 18 → b14 i = v i) → post (c, a1, a2, a3, a4, a5, a6, a7, a8, a9, a10, a11, a12, a13, b14, a15)) :
    wpX_workAll post (c, a1, a2, a3, a4, a5, a6, a7, a8, a9, a10, a11, a12, a13, a14, a15) := by
  unfold wpX_workAll
  refine pk_loop (fun n i s => wX_workAll_2 post c n (nI i) a1 a2 a3 a4 a5 a6 a7 a8 a9 a10 a11 a12 a13 s a15) (fun i s => ∀ f, f < 18 → Q f < i → s f = v f) 18 0 a14 (by omega) (fun f _ hq => absurd hq (by omega)) ?_ ?_
  · intro n s h
    exact pk_le 18 18 (fun _ => H s (fun i hi => h i hi (hO i hi).2.1.2.1)) (fun z => absurd z (by omega))
  · intro n i s hi h hw
    obtain ⟨ho, _, hqo, _⟩ := (hO i hi).2.1
    obtain ⟨hb, _, hk, hu, hab, has, _⟩ := hO (O i) ho
    rw [hqo] at hab has
    obtain ⟨_, c8, c9, c10⟩ := hC (O i) ho
    have hE' := hE (O i) ho
    have eo : (nI (O i)).toNatClampNeg = O i := nI_clamp (by omega)
    have fin : ∀ r, r = v (O i) → wX_workAll_2 post c n (nI (i + 1)) a1 a2 a3 a4 a5 a6 a7 a8 a9 a10 a11 a12 a13 (upd s (O i) r) a15 := by
      intro r hr
      refine hw _ (fun f hf hq => ?_)
      by_cases e : f = O i
      · rw [e, pk_us, hr]
      · rw [pk_un e]
        refine h f hf ?_
        rcases Nat.lt_or_ge (Q f) i with z | z
        · exact z
        · exfalso
          have e4 := (hO f hf).2.1.2.2.2
          rw [show Q f = i by omega] at e4
          exact e e4.symm
    refine pk_le 18 i (fun z => absurd z (by omega)) (fun _ => ⟨pk_in i 18 hi, nm_r (show a7 (nI i).toNatClampNeg = nI (O i) by rw [nI_clamp (by omega)]; exact (hC i hi).1) ?_⟩)
    rw [eo]
    refine ⟨pk_in (O i) 18 ho, ?_⟩
    by_cases k1 : K (O i) = 1
    · rw [if_pos k1] at c8
      refine br_f (by rw [c8]; decide) ⟨pk_in (O i) 18 ho, pk_in (O i) 18 ho, nm_e (nm_r (nI_1 i) (fin _ ?_))⟩
      rw [c9 k1, hE'.2.1 k1]
    · rw [if_neg k1] at c8
      refine br_t c8 ⟨pk_in (O i) 18 ho, br_t c10 (mt_work hD ho hb hk k1 hE' (fun z => ?_) (fun z => ?_) ⟨pk_in (O i) 18 ho, nm_e (nm_r (nI_1 i) (fin _ rfl))⟩)⟩
      · exact ⟨h _ hb.1 (hab z).1, h _ hb.2.1 (hab z).2.1⟩
      · exact ⟨h _ hb.1 (has z).1, h _ hb.2.2 (has z).2⟩
/-- finish() -/
theorem mt_f59 {post : St2 → Prop} {J : Int32 → (Nat → Int32) → (Nat → Int32) → (Nat → Int32) → (Nat → Int32) → (Nat → Int32) → (Nat → Int32) → (Nat → Int32) → (Nat → Int32) → (Nat → Int32) → (Nat → Int32) → (Nat → Int32) → (Nat → Int32) → (Nat → Int32) → (Nat → Int32) → (Nat → Int32) → Prop} {i : Nat} (hi : i < 18)
    (H : J (nI (i + 1)) a1 a2 a3 a4 a5 a6 a7 a8 a9 a10 a11 a12 (upd a13 i 0) a14 (upd a15 i (a14 i))) : wX_finish_59 post J (nI i) c a1 a2 a3 a4 a5 a6 a7 a8 a9 a10 a11 a12 a13 a14 a15 := by
  unfold wX_finish_59
  rw [nI_clamp (show i < 2 ^ 31 by omega)]
  exact ⟨pk_in i 18 hi, pk_in i 18 hi, nm_e ⟨pk_in i 18 hi, nm_e (nm_r (nI_1 i) H)⟩⟩
theorem mt_finish {post : St2 → Prop} {K A B S : Nat → Nat} {N : Nat → Int32} (hD : mt_Def K A B S N a1 a2 a3 a4 a6) (hA : ∀ i, i < 18 → A i < 18) (hK : ∀ i, i < 18 → K i ≤ 8)
    (H : ∀ b12 b13 b15, (∀ f, f < 18 → b12 f = if K f = 7 then a14 (A f) else if K f = 8 then a14 f else a12 f) → (∀ f, f < 18 → b13 f = 0) → (∀ f, f < 18 → b15 f = a14 f) → post (c + 1, a1, a2, a3, a4, a5, a6, a7, a8, a9, a10, a11, b12, b13, a14, b15)) :
    wpX_finish post (c, a1, a2, a3, a4, a5, a6, a7, a8, a9, a10, a11, a12, a13, a14, a15) := by
  unfold wpX_finish
  refine pk_loop (σ := (Nat → Int32) × (Nat → Int32) × (Nat → Int32)) (fun n i s => wX_finish_2 post c n (nI i) a1 a2 a3 a4 a5 a6 a7 a8 a9 a10 a11 s.1 s.2.1 a14 s.2.2)
    (fun i s => (∀ f, f < i → s.1 f = if K f = 7 then a14 (A f) else if K f = 8 then a14 f else a12 f) ∧ (∀ f, i ≤ f → s.1 f = a12 f) ∧ (∀ f, f < i → s.2.1 f = 0) ∧ (∀ f, f < i → s.2.2 f = a14 f)) 18 0 (a12, a13, a15) (by omega)
    ⟨fun f hf => absurd hf (by omega), fun _ _ => rfl, fun f hf => absurd hf (by omega), fun f hf => absurd hf (by omega)⟩ ?_ ?_
  · intro n s h
    exact pk_le 18 18 (fun _ => nm_e (H _ _ _ h.1 h.2.2.1 h.2.2.2)) (fun z => absurd z (by omega))
  · intro n i s hi h hw
    obtain ⟨b12, b13, b15⟩ := s
    obtain ⟨h1, h2, h3, h4⟩ := h
    dsimp only at h1 h2 h3 h4 hw ⊢
    obtain ⟨e1, e2, _, _, _⟩ := hD i hi
    have hk8 := hK i hi
    have hAi := hA i hi
    have ei : (nI i).toNatClampNeg = i := nI_clamp (by omega)
    have fin : ∀ d12 : Nat → Int32, (∀ f, f ≠ i → d12 f = b12 f) → (d12 i = if K i = 7 then a14 (A i) else if K i = 8 then a14 i else a12 i) →
        wX_finish_59 post (wX_finish_2 post c n) (nI i) c a1 a2 a3 a4 a5 a6 a7 a8 a9 a10 a11 d12 b13 a14 b15 := by
      intro d12 g1 g2
      refine mt_f59 hi (hw (d12, upd b13 i 0, upd b15 i (a14 i)) ⟨fun f hf => ?_, fun f hf => ?_, fun f hf => ?_, fun f hf => ?_⟩)
      · dsimp only
        by_cases e : f = i
        · rw [e]; exact g2
        · rw [g1 f e]; exact h1 f (by omega)
      · dsimp only
        rw [g1 f (by omega)]; exact h2 f (by omega)
      · dsimp only
        by_cases e : f = i
        · rw [e]; exact pk_us
        · rw [pk_un e]; exact h3 f (by omega)
      · dsimp only
        by_cases e : f = i
        · rw [e]; exact pk_us
        · rw [pk_un e]; exact h4 f (by omega)
    refine pk_le 18 i (fun z => absurd z (by omega)) (fun _ => ⟨pk_in i 18 hi, ?_⟩)
    rw [ei, e1, e2]
    refine pk_eq (K i) 7 (fun k => ⟨pk_in i 18 hi, pk_in (A i) 18 hAi, pk_in i 18 hi, nm_e ?_⟩) (fun k => ?_)
    · unfold wX_finish_36
      rw [ei, e1, nI_clamp (show A i < 2 ^ 31 by omega)]
      refine ⟨pk_in i 18 hi, pk_eq (K i) 8 (fun z => absurd z (by omega)) (fun _ => fin _ (fun f hf => pk_un hf) ?_)⟩
      rw [pk_us, if_pos k]
    · unfold wX_finish_36
      rw [ei, e1]
      refine ⟨pk_in i 18 hi, pk_eq (K i) 8 (fun z => ⟨pk_in i 18 hi, pk_in i 18 hi, nm_e (fin _ (fun f hf => pk_un hf) ?_)⟩) (fun z => fin _ (fun _ _ => rfl) ?_)⟩
      · rw [pk_us, if_neg k, if_pos z]
      · rw [if_neg k, if_neg z]; exact h2 i (by omega)
/-- reset(), value() -/
theorem mt_reset {post : St2 → Prop} (H : ∀ b12 b13 b15, (∀ f, f < 18 → b13 f = 1) → (∀ f, f < 18 → b15 f = 0) → post (0, a1, a2, a3, a4, a5, a6, a7, a8, a9, a10, a11, b12, b13, a14, b15)) :
    wpX_reset post (c, a1, a2, a3, a4, a5, a6, a7, a8, a9, a10, a11, a12, a13, a14, a15) := by
  unfold wpX_reset
  refine pk_loop (σ := (Nat → Int32) × (Nat → Int32) × (Nat → Int32)) (fun n i s => wX_reset_7 post 0 n (nI i) a1 a2 a3 a4 a5 a6 a7 a8 a9 a10 a11 s.1 s.2.1 a14 s.2.2)
    (fun i s => (∀ f, f < i → s.2.1 f = 1) ∧ (∀ f, f < i → s.2.2 f = 0)) 18 0 (a12, a13, a15) (by omega) ⟨fun f hf => absurd hf (by omega), fun f hf => absurd hf (by omega)⟩ ?_ ?_
  · intro n s h
    exact pk_le 18 18 (fun _ => H _ _ _ h.1 h.2) (fun z => absurd z (by omega))
  · intro n i s hi h hw
    exact pk_le 18 i (fun z => absurd z (by omega)) (fun _ => ⟨pk_in i 18 hi, nm_e ⟨pk_in i 18 hi, nm_e ⟨pk_in i 18 hi, nm_e (nm_r (nI_1 i) (hw (_, _, _)
      ⟨mt_fill (f := fun _ => 1) (nI_clamp (by omega)) h.1 rfl, mt_fill (f := fun _ => 0) (nI_clamp (by omega)) h.2 rfl⟩))⟩⟩⟩)
theorem mt_value {post : Int32 → Prop} {f : Nat} (hf : f < 18) (h : post (a15 f)) : wpX_value post (c, a1, a2, a3, a4, a5, a6, a7, a8, a9, a10, a11, a12, a13, a14, a15) (nI f) := by
  unfold wpX_value
  rw [nI_clamp (show f < 2 ^ 31 by omega)]
  exact mt_off_w (mt_off_n f hf) (br_t rfl ⟨pk_in f 18 hf, h⟩)
/-- the constructor -/
theorem mt_init {post : St2 → Prop} {mc ms : Nat} (h1 : 15 ≤ mc) (h2 : 256 ≤ ms) {K A B S : Nat → Nat} {N : Nat → Int32} {O Q : Nat → Nat} (hT : ∀ i, i < 18 → K i = 1 ∧ A i = 0 ∧ B i = 0 ∧ S i = 0 ∧ N i = 0) (hO : mt_Ok K A B S N O Q)
    (H : ∀ b1 b7 b8 b9 b10 b13, mt_Def K A B S N b1 (fun _ => 0) (fun _ => 0) (fun _ => 0) (fun _ => 0) → mt_Cmp K O (fun _ => 0) b7 b8 b9 b10 → (∀ f, f < 18 → b13 f = 1) →
      post (c, b1, fun _ => 0, fun _ => 0, fun _ => 0, fun _ => 0, fun _ => 0, b7, b8, b9, b10, fun _ => 0, fun _ => 0, b13, fun _ => 0, fun _ => 0)) : wpX_init post mc ms c := by
  unfold wpX_init
  refine ⟨by omega, by omega, by omega, by omega, by omega, by omega, by omega, by omega, by omega, by omega, by omega, by omega, by omega, by omega, by omega, by omega, by omega, by omega, by omega, by omega, by omega, by omega, by omega, by omega, by omega, by omega, by omega, by omega, by omega, by omega, ?_⟩
  refine pk_loop (σ := (Nat → Int32) × (Nat → Int32)) (fun n i s => wX_init_125 post mc ms 15 256 c n (nI i) s.1 (fun _ => 0) (fun _ => 0) (fun _ => 0) (fun _ => 0) (fun _ => 0) (fun _ => 0) (fun _ => 0) (fun _ => 0) (fun _ => 0) (fun _ => 0) (fun _ => 0) s.2 (fun _ => 0) (fun _ => 0))
    (fun i s => (∀ f, f < i → s.1 f = 1) ∧ (∀ f, f < i → s.2 f = 1)) 18 0 (fun _ => 0, fun _ => 0) (by omega) ⟨fun f hf => absurd hf (by omega), fun f hf => absurd hf (by omega)⟩ ?_ ?_
  · intro n s h
    obtain ⟨b1, b13⟩ := s
    obtain ⟨g1, g2⟩ := h
    dsimp only at g1 g2 ⊢
    have hD : mt_Def K A B S N b1 (fun _ => 0) (fun _ => 0) (fun _ => 0) (fun _ => 0) := by
      intro i hi
      obtain ⟨t1, t2, t3, t4, t5⟩ := hT i hi
      rw [t1, t2, t3, t4, t5]
      exact ⟨g1 i hi, rfl, rfl, rfl, rfl⟩
    exact pk_le 18 18 (fun _ => mt_compile hD hO (fun b7 b8 b9 b10 h => H b1 b7 b8 b9 b10 b13 hD h g2)) (fun z => absurd z (by omega))
  · intro n i s hi h hw
    exact pk_le 18 i (fun z => absurd z (by omega)) (fun _ => ⟨pk_in i 18 hi, nm_e ⟨pk_in i 18 hi, nm_e (nm_r (nI_1 i) (hw (_, _)
      ⟨mt_fill (f := fun _ => 1) (nI_clamp (by omega)) h.1 rfl, mt_fill (f := fun _ => 1) (nI_clamp (by omega)) h.2 rfl⟩))⟩⟩)
end
end
section
/-! the law's tables, and its machine -/
def mt_K (k0 k1 k2 k3 k4 : Nat) : Nat → Nat := fun i => if i = 0 then k0 else if i = 1 then k1 else if i = 2 then k2 else if i = 3 then k3 else if i = 4 then k4 else 1
def mt_A (x1 x2 x3 x4 : Nat) : Nat → Nat := fun i => if i = 1 then x1 else if i = 2 then x2 else if i = 3 then x3 else if i = 4 then x4 else 0
def mt_B (x3 : Nat) : Nat → Nat := fun i => if i = 3 then x3 else 0
def mt_S (x4 : Nat) : Nat → Nat := fun i => if i = 4 then x4 else 0
def mt_N (n2 n3 n4 : Int32) : Nat → Int32 := fun i => if i = 2 then n2 else if i = 3 then n3 else if i = 4 then n4 else 0
def mt_O0 : Nat → Nat := fun i => i
def mt_O4 : Nat → Nat := fun i => if i < 3 then i else if i = 17 then 3 else i + 1
def mt_Q4 : Nat → Nat := fun f => if f < 3 then f else if f = 3 then 17 else f - 1
def mt_O5 : Nat → Nat := fun i => if i < 3 then i else if i < 16 then i + 2 else if i = 16 then 3 else 4
def mt_Q5 : Nat → Nat := fun f => if f < 3 then f else if f = 3 then 16 else if f = 4 then 17 else f - 2
theorem mt_mk {K A B S : Nat → Nat} {N : Nat → Int32} {O Q : Nat → Nat} (h1 : ∀ i, i < 18 → A i < 18 ∧ B i < 18 ∧ S i < 18) (h2 : ∀ i, i < 18 → O i < 18 ∧ Q i < 18 ∧ Q (O i) = i ∧ O (Q i) = i)
    (h3 : ∀ i, i < 18 → K i = 0 ∨ K i = 1 ∨ K i = 2 ∨ K i = 5 ∨ K i = 7 ∨ K i = 8) (h4 : ∀ i, i < 18 → ∀ j, j < 18 → K i ≠ 1 → K j = K i → j = i)
    (h5 : ∀ i, i < 18 → K i = 2 ∨ K i = 5 → Q (A i) < Q i ∧ Q (B i) < Q i ∧ K (A i) ≠ 1) (h6 : ∀ i, i < 18 → K i = 8 → Q (A i) < Q i ∧ Q (S i) < Q i)
    (h7 : ∀ i, i < 18 → ∀ f, f < O i → mt_rdy N (mt_P O i) f = false) (h8 : ∀ i, i < 18 → O i = 17 ∨ mt_rdy N (mt_P O i) (O i) = true) : mt_Ok K A B S N O Q :=
  fun i hi => ⟨h1 i hi, h2 i hi, h3 i hi, h4 i hi, h5 i hi, h6 i hi, h7 i hi, h8 i hi⟩
theorem mt_ok0 : mt_Ok (mt_K 1 1 1 1 1) (mt_A 0 0 0 0) (mt_B 0) (mt_S 0) (mt_N 0 0 0) mt_O0 mt_O0 := by
  exact mt_mk (by decide +kernel) (by decide +kernel) (by decide +kernel) (by decide +kernel) (by decide +kernel) (by decide +kernel) (by decide +kernel) (by decide +kernel)
theorem mt_ok1 : mt_Ok (mt_K 0 1 1 1 1) (mt_A 0 0 0 0) (mt_B 0) (mt_S 0) (mt_N 0 0 0) mt_O0 mt_O0 := by
  exact mt_mk (by decide +kernel) (by decide +kernel) (by decide +kernel) (by decide +kernel) (by decide +kernel) (by decide +kernel) (by decide +kernel) (by decide +kernel)
theorem mt_ok2 : mt_Ok (mt_K 0 7 1 1 1) (mt_A 2 0 0 0) (mt_B 0) (mt_S 0) (mt_N 0 0 0) mt_O0 mt_O0 := by
  exact mt_mk (by decide +kernel) (by decide +kernel) (by decide +kernel) (by decide +kernel) (by decide +kernel) (by decide +kernel) (by decide +kernel) (by decide +kernel)
theorem mt_ok3 : mt_Ok (mt_K 0 7 2 1 1) (mt_A 2 1 0 0) (mt_B 0) (mt_S 0) (mt_N 3 0 0) mt_O0 mt_O0 := by
  exact mt_mk (by decide +kernel) (by decide +kernel) (by decide +kernel) (by decide +kernel) (by decide +kernel) (by decide +kernel) (by decide +kernel) (by decide +kernel)
theorem mt_ok4 : mt_Ok (mt_K 0 7 2 5 1) (mt_A 2 1 2 0) (mt_B 17) (mt_S 0) (mt_N 3 131076 0) mt_O4 mt_Q4 := by
  exact mt_mk (by decide +kernel) (by decide +kernel) (by decide +kernel) (by decide +kernel) (by decide +kernel) (by decide +kernel) (by decide +kernel) (by decide +kernel)
theorem mt_ok5 : mt_Ok (mt_K 0 7 2 5 8) (mt_A 2 1 2 2) (mt_B 17) (mt_S 3) (mt_N 3 131076 12) mt_O5 mt_Q5 := by
  exact mt_mk (by decide +kernel) (by decide +kernel) (by decide +kernel) (by decide +kernel) (by decide +kernel) (by decide +kernel) (by decide +kernel) (by decide +kernel)
theorem mt_ok7 : mt_Ok (mt_K 1 7 2 5 8) (mt_A 2 1 2 2) (mt_B 17) (mt_S 3) (mt_N 3 131076 12) mt_O5 mt_Q5 := by
  exact mt_mk (by decide +kernel) (by decide +kernel) (by decide +kernel) (by decide +kernel) (by decide +kernel) (by decide +kernel) (by decide +kernel) (by decide +kernel)
theorem mt_p1 : mt_Pre (mt_K 1 1 1 1 1) (mt_A 0 0 0 0) (mt_B 0) (mt_S 0) (mt_N 0 0 0) (mt_K 0 1 1 1 1) (mt_A 0 0 0 0) (mt_B 0) (mt_S 0) (mt_N 0 0 0) 0 0 0 0 0 := by
  unfold mt_Pre
  decide +kernel
theorem mt_p2 : mt_Pre (mt_K 0 1 1 1 1) (mt_A 0 0 0 0) (mt_B 0) (mt_S 0) (mt_N 0 0 0) (mt_K 0 7 1 1 1) (mt_A 2 0 0 0) (mt_B 0) (mt_S 0) (mt_N 0 0 0) 1 7 2 0 0 := by
  unfold mt_Pre
  decide +kernel
theorem mt_p3 : mt_Pre (mt_K 0 7 1 1 1) (mt_A 2 0 0 0) (mt_B 0) (mt_S 0) (mt_N 0 0 0) (mt_K 0 7 2 1 1) (mt_A 2 1 0 0) (mt_B 0) (mt_S 0) (mt_N 3 0 0) 2 2 1 3 2 := by
  unfold mt_Pre
  decide +kernel
theorem mt_p3b : mt_Pre (mt_K 0 7 2 1 1) (mt_A 2 1 0 0) (mt_B 0) (mt_S 0) (mt_N 3 0 0) (mt_K 0 7 2 1 1) (mt_A 2 1 0 0) (mt_B 0) (mt_S 0) (mt_N 3 0 0) 2 2 1 3 2 := by
  unfold mt_Pre
  decide +kernel
theorem mt_p4 : mt_Pre (mt_K 0 7 2 1 1) (mt_A 2 1 0 0) (mt_B 0) (mt_S 0) (mt_N 3 0 0) (mt_K 0 7 2 5 1) (mt_A 2 1 2 0) (mt_B 17) (mt_S 0) (mt_N 3 131076 0) 3 5 546 131076 4 := by
  unfold mt_Pre
  decide +kernel
theorem mt_p5 : mt_Pre (mt_K 0 7 2 5 1) (mt_A 2 1 2 0) (mt_B 17) (mt_S 0) (mt_N 3 131076 0) (mt_K 0 7 2 5 8) (mt_A 2 1 2 2) (mt_B 17) (mt_S 3) (mt_N 3 131076 12) 4 8 3074 12 5 := by
  unfold mt_Pre
  decide +kernel
theorem mt_p6 : mt_Pre (mt_K 0 7 2 5 8) (mt_A 2 1 2 2) (mt_B 17) (mt_S 3) (mt_N 3 131076 12) (mt_K 0 7 2 5 8) (mt_A 2 1 2 2) (mt_B 17) (mt_S 3) (mt_N 3 131076 12) 17 1 0 0 0 := by
  unfold mt_Pre
  decide +kernel
theorem mt_p7 : mt_Pre (mt_K 0 7 2 5 8) (mt_A 2 1 2 2) (mt_B 17) (mt_S 3) (mt_N 3 131076 12) (mt_K 1 7 2 5 8) (mt_A 2 1 2 2) (mt_B 17) (mt_S 3) (mt_N 3 131076 12) 0 1 0 0 0 := by
  unfold mt_Pre
  decide +kernel
theorem mt_p8 : mt_Pre (mt_K 1 7 2 5 8) (mt_A 2 1 2 2) (mt_B 17) (mt_S 3) (mt_N 3 131076 12) (mt_K 1 7 2 5 8) (mt_A 2 1 2 2) (mt_B 17) (mt_S 3) (mt_N 3 131076 12) 1 7 2 0 0 := by
  unfold mt_Pre
  decide +kernel
/-- what stays over the instants: flow 0 is x (an input, or a number), flow 1 begins with st -/
def mt_Sta (k0 : Nat) (x st : Int32) (a1 a2 a3 a4 a5 a6 a7 a8 a9 a10 a11 : Nat → Int32) : Prop :=
  mt_Def (mt_K k0 7 2 5 8) (mt_A 2 1 2 2) (mt_B 17) (mt_S 3) (mt_N 3 131076 12) a1 a2 a3 a4 a6 ∧ mt_Cmp (mt_K k0 7 2 5 8) mt_O5 a5 a7 a8 a9 a10 ∧
  (k0 = 0 ∧ a11 (a5 0 &&& 3).toNatClampNeg = x ∨ k0 = 1 ∧ a5 0 = x) ∧ a5 1 = st ∧ a5 4 = -1 ∧ a5 17 = 0
/-- what flow 1 and flow 4 hold at the next instant -/
def mt_Dyn (st p h : Int32) (a12 a13 : Nat → Int32) : Prop := (if a13 1 = 0 then a12 1 else st) = p ∧ (if a13 4 = 0 then a12 4 else -1) = h
/-- the values of an instant -/
def mt_v (x p h : Int32) (a5 : Nat → Int32) : Nat → Int32 := fun f => if f = 0 then x else if f = 1 then p else if f = 2 then p + x else if f = 3 then (if 0 ≤ p + x then 0 else 1) else if f = 4 then (if 0 ≤ p + x then h else p + x) else a5 f
theorem mt_K_5 {k0 k1 k2 k3 k4 f : Nat} (h : 5 ≤ f) : mt_K k0 k1 k2 k3 k4 f = 1 := by
  unfold mt_K
  rw [if_neg (by omega), if_neg (by omega), if_neg (by omega), if_neg (by omega), if_neg (by omega)]
theorem mt_v_5 {x p h : Int32} {a5 : Nat → Int32} {f : Nat} (hf : 5 ≤ f) : mt_v x p h a5 f = a5 f := by
  unfold mt_v
  rw [if_neg (by omega), if_neg (by omega), if_neg (by omega), if_neg (by omega), if_neg (by omega)]
section
variable {c x st p h : Int32} {k0 : Nat} {a1 a2 a3 a4 a5 a6 a7 a8 a9 a10 a11 a12 a13 a14 a15 : Nat → Int32}
theorem mt_Sta_ok (hS : mt_Sta k0 x st a1 a2 a3 a4 a5 a6 a7 a8 a9 a10 a11) : mt_Ok (mt_K k0 7 2 5 8) (mt_A 2 1 2 2) (mt_B 17) (mt_S 3) (mt_N 3 131076 12) mt_O5 mt_Q5 := by
  rcases hS.2.2.1 with e | e
  · rw [e.1]; exact mt_ok5
  · rw [e.1]; exact mt_ok7
theorem mt_Eqs (hS : mt_Sta k0 x st a1 a2 a3 a4 a5 a6 a7 a8 a9 a10 a11) (hY : mt_Dyn st p h a12 a13) : ∀ f, f < 18 → mt_Eq (mt_K k0 7 2 5 8) (mt_A 2 1 2 2) (mt_B 17) (mt_S 3) a5 a11 a12 a13 (mt_v x p h a5) f := by
  obtain ⟨_, _, h0, h1, h4, h17⟩ := hS
  obtain ⟨y1, y4⟩ := hY
  intro f hf
  unfold mt_Eq
  by_cases e0 : f = 0
  · subst e0
    rcases h0 with ⟨e, h0⟩ | ⟨e, h0⟩
    · subst e
      exact ⟨fun _ => h0.symm, fun z => absurd z (by decide), fun z => absurd z (by decide), fun z => absurd z (by decide), fun z => absurd z (by decide), fun z => absurd z (by decide)⟩
    · subst e
      exact ⟨fun z => absurd z (by decide), fun _ => h0.symm, fun z => absurd z (by decide), fun z => absurd z (by decide), fun z => absurd z (by decide), fun z => absurd z (by decide)⟩
  by_cases e1 : f = 1
  · subst e1
    have q : mt_K k0 7 2 5 8 1 = 7 := rfl
    rw [q]
    refine ⟨fun z => absurd z (by decide), fun z => absurd z (by decide), fun z => absurd z (by decide), fun z => absurd z (by decide), fun _ => ?_, fun z => absurd z (by decide)⟩
    rw [h1]
    exact y1.symm
  by_cases e2 : f = 2
  · subst e2
    have q : mt_K k0 7 2 5 8 2 = 2 := rfl
    rw [q]
    exact ⟨fun z => absurd z (by decide), fun z => absurd z (by decide), fun _ => rfl, fun z => absurd z (by decide), fun z => absurd z (by decide), fun z => absurd z (by decide)⟩
  by_cases e3 : f = 3
  · subst e3
    have q : mt_K k0 7 2 5 8 3 = 5 := rfl
    rw [q]
    refine ⟨fun z => absurd z (by decide), fun z => absurd z (by decide), fun z => absurd z (by decide), fun _ => ?_, fun z => absurd z (by decide), fun z => absurd z (by decide)⟩
    have q1 : mt_v x p h a5 (mt_B 17 3) = 0 := h17
    have q2 : mt_v x p h a5 (mt_A 2 1 2 2 3) = p + x := rfl
    rw [q1, q2]
    rfl
  by_cases e4 : f = 4
  · subst e4
    have q : mt_K k0 7 2 5 8 4 = 8 := rfl
    rw [q]
    refine ⟨fun z => absurd z (by decide), fun z => absurd z (by decide), fun z => absurd z (by decide), fun z => absurd z (by decide), fun z => absurd z (by decide), fun _ => ?_⟩
    have q0 : mt_v x p h a5 4 = if 0 ≤ p + x then h else p + x := rfl
    have q1 : mt_v x p h a5 (mt_S 3 4) = if 0 ≤ p + x then 0 else 1 := rfl
    have q2 : mt_v x p h a5 (mt_A 2 1 2 2 4) = p + x := rfl
    rw [q0, q1, q2, h4, y4]
    by_cases g : 0 ≤ p + x
    · rw [if_pos g, if_pos g, if_pos rfl]
    · rw [if_neg g, if_neg g, if_neg (by decide)]
  · rw [mt_K_5 (show 5 ≤ f by omega)]
    exact ⟨fun z => absurd z (by decide), fun _ => mt_v_5 (by omega), fun z => absurd z (by decide), fun z => absurd z (by decide), fun z => absurd z (by decide), fun z => absurd z (by decide)⟩
theorem mt_wall {post : St2 → Prop} (hS : mt_Sta k0 x st a1 a2 a3 a4 a5 a6 a7 a8 a9 a10 a11) (hY : mt_Dyn st p h a12 a13)
    (H : ∀ b14, (∀ i, i < 18 → b14 i = mt_v x p h a5 i) → post (c, a1, a2, a3, a4, a5, a6, a7, a8, a9, a10, a11, a12, a13, b14, a15)) :
    wpX_workAll post (c, a1, a2, a3, a4, a5, a6, a7, a8, a9, a10, a11, a12, a13, a14, a15) :=
  mt_workAll hS.1 (mt_Sta_ok hS) hS.2.1 (mt_Eqs hS hY) H
theorem mt_next {post : Int32 → St2 → Prop} (hS : mt_Sta k0 x st a1 a2 a3 a4 a5 a6 a7 a8 a9 a10 a11) (hY : mt_Dyn st p h a12 a13) {f : Nat} (hf : f < 18)
    (H : ∀ b14, post (mt_v x p h a5 f) (c, a1, a2, a3, a4, a5, a6, a7, a8, a9, a10, a11, a12, a13, b14, a15)) :
    wpX_next post (c, a1, a2, a3, a4, a5, a6, a7, a8, a9, a10, a11, a12, a13, a14, a15) (nI f) := by
  unfold wpX_next
  refine mt_off_w (mt_off_n f hf) (br_t rfl (mt_wall hS hY (fun b14 hb => ⟨pk_in f 18 hf, ?_⟩)))
  rw [nI_clamp (show f < 2 ^ 31 by omega), hb f hf]
  exact H b14
/-- flow 4 after i instants -/
def mt_h (x p h : Int32) : Nat → Int32
  | 0 => h
  | i + 1 => if 0 ≤ p + nI i * x + x then mt_h x p h i else p + nI i * x + x
theorem mt_pz (p x : Int32) : p + nI 0 * x = p := by
  rw [nI_0, Int32.zero_mul, Int32.add_zero]
theorem mt_ps (p x : Int32) (i : Nat) : p + nI i * x + x = p + nI (i + 1) * x := by
  rw [← nI_1, Int32.add_mul, Int32.one_mul, Int32.add_assoc]
theorem mt_inst {post : St2 → Prop} (hS : mt_Sta k0 x st a1 a2 a3 a4 a5 a6 a7 a8 a9 a10 a11) (hY : mt_Dyn st p h a12 a13) (hb : ∀ i, i < 18 → a14 i = mt_v x p h a5 i)
    (H : ∀ b12 b13 b15, mt_Dyn st (p + x) (if 0 ≤ p + x then h else p + x) b12 b13 → (b15 0 = x ∧ b15 1 = p ∧ b15 2 = p + x ∧ b15 4 = if 0 ≤ p + x then h else p + x) → post (c + 1, a1, a2, a3, a4, a5, a6, a7, a8, a9, a10, a11, b12, b13, a14, b15)) :
    wpX_finish post (c, a1, a2, a3, a4, a5, a6, a7, a8, a9, a10, a11, a12, a13, a14, a15) := by
  have hO := mt_Sta_ok hS
  refine mt_finish hS.1 (fun i hi => (hO i hi).1.1) (fun i hi => ?_) (fun b12 b13 b15 g12 g13 g15 => H b12 b13 b15 ⟨?_, ?_⟩ ⟨?_, ?_, ?_, ?_⟩)
  · have := (hO i hi).2.2.1
    omega
  · rw [if_pos (g13 1 (by decide)), g12 1 (by decide)]
    exact hb 2 (by decide)
  · rw [if_pos (g13 4 (by decide)), g12 4 (by decide)]
    exact hb 4 (by decide)
  · rw [g15 0 (by decide)]; exact hb 0 (by decide)
  · rw [g15 1 (by decide)]; exact hb 1 (by decide)
  · rw [g15 2 (by decide)]; exact hb 2 (by decide)
  · rw [g15 4 (by decide)]; exact hb 4 (by decide)
/-- what last holds after i instants -/
def mt_La (x p h : Int32) (i : Nat) (a15 : Nat → Int32) : Prop := ∀ j, i = j + 1 → a15 0 = x ∧ a15 1 = p + nI j * x ∧ a15 2 = p + nI (j + 1) * x ∧ a15 4 = mt_h x p h (j + 1)
theorem mt_step {post : Int32 → St2 → Prop} (m : Nat) (hm : m ≤ 100) (hS : mt_Sta k0 x st a1 a2 a3 a4 a5 a6 a7 a8 a9 a10 a11) (hY : mt_Dyn st p h a12 a13)
    (H : ∀ b12 b13 b14 b15, mt_Dyn st (p + nI m * x) (mt_h x p h m) b12 b13 → mt_La x p h m b15 → post (c + nI m) (c + nI m, a1, a2, a3, a4, a5, a6, a7, a8, a9, a10, a11, b12, b13, b14, b15)) :
    wpX_step post (c, a1, a2, a3, a4, a5, a6, a7, a8, a9, a10, a11, a12, a13, a14, a15) (nI m) := by
  unfold wpX_step
  refine br_t (nI_le hm (by decide)) ?_
  refine pk_loop (σ := Int32 × (Nat → Int32) × (Nat → Int32) × (Nat → Int32) × (Nat → Int32)) (fun n i s => wX_step_15 post (nI m) n (nI i) s.1 a1 a2 a3 a4 a5 a6 a7 a8 a9 a10 a11 s.2.1 s.2.2.1 s.2.2.2.1 s.2.2.2.2)
    (fun i s => s.1 = c + nI i ∧ mt_Dyn st (p + nI i * x) (mt_h x p h i) s.2.1 s.2.2.1 ∧ mt_La x p h i s.2.2.2.2) m 0 (c, a12, a13, a14, a15) (by omega) ⟨?_, ?_, fun j hj => absurd hj (by omega)⟩ ?_ ?_
  · rw [nI_0, Int32.add_zero]
  · rw [mt_pz]; exact hY
  · intro n s g
    obtain ⟨c', b12, b13, b14, b15⟩ := s
    obtain ⟨g1, g2, g3⟩ := g
    dsimp only at g1 g2 g3 ⊢
    subst g1
    exact pk_le m m (fun _ => H b12 b13 b14 b15 g2 g3) (fun z => absurd z (by omega))
  · intro n i s hi g hw
    obtain ⟨c', b12, b13, b14, b15⟩ := s
    obtain ⟨g1, g2, g3⟩ := g
    dsimp only at g1 g2 g3 hw ⊢
    subst g1
    refine pk_le m i (fun z => absurd z (by omega)) (fun _ => mt_wall hS g2 (fun d14 hd => mt_inst hS g2 hd (fun d12 d13 d15 q1 q2 => nm_r (nI_1 i) (hw (c + nI i + 1, d12, d13, d14, d15) ⟨?_, ?_, ?_⟩))))
    · dsimp only
      rw [← nI_1, Int32.add_assoc]
    · dsimp only
      rw [← mt_ps]
      exact q1
    · intro j hj
      have ej : i = j := by omega
      subst ej
      dsimp only
      rw [← mt_ps]
      exact q2
end
end
section
/-! the law -/
theorem mt_r1 (st x k : Int32) : st + k * x + x = st + (k + 1) * x := by
  rw [Int32.add_mul, Int32.one_mul, Int32.add_assoc]
theorem mt_r2 (st y : Int32) : st + nI 1 * y + y = st + 2 * y := by
  rw [mt_ps]
  rfl
theorem mt_r3 (st y : Int32) : st + nI 1 * y = st + y := by
  rw [← mt_ps, mt_pz]
section
variable {x st y : Int32} {k0 : Nat} {a1 a2 a3 a4 a5 a6 a7 a8 a9 a10 a11 a12 a13 a14 a15 : Nat → Int32}
/-- behind the loop -/
theorem mt_tail {post : Int32 → St0 → Prop} {mc ms kc ks k n : Nat} {x6 : Int32} (hk : k ≤ 32) (hp : post 1 ()) (hS : mt_Sta 0 x st a1 a2 a3 a4 a5 a6 a7 a8 a9 a10 a11) (hY : mt_Dyn st (st + nI k * x) x6 a12 a13) (h15 : a15 4 = x6) :
    wL_lawOf_192 post mc ms x st y (nI k) kc ks (nI k) a1 a2 a3 a4 a5 a6 a7 a8 a9 a10 a11 a12 a13 a14 a15 (n + 1) x6 (nI 32) := by
  refine pk_le 32 32 (fun _ => ?_) (fun z => absurd z (by omega))
  refine mt_value (f := 4) (by decide) (br_t h15 ?_)
  refine mt_next (f := 2) hS hY (by decide) (fun b14 => br_t (mt_r1 st x (nI k)) ?_)
  refine mt_define hS.1 0 1 mt_p7 mt_ok7 (fun b1 b2 b3 b4 b6 b7 b8 b9 b10 hD hC => ?_)
  have hS' : mt_Sta 1 y st b1 b2 b3 b4 (upd a5 0 y) b6 b7 b8 b9 b10 a11 := ⟨hD, hC, Or.inr ⟨rfl, rfl⟩, hS.2.2.2.1, hS.2.2.2.2.1, hS.2.2.2.2.2⟩
  have hY' : mt_Dyn st (st + nI k * x) x6 a12 (upd a13 0 1) := hY
  refine mt_next (f := 2) hS' hY' (by decide) (fun c14 => br_t rfl ?_)
  refine mt_next (f := 1) hS' hY' (by decide) (fun d14 => br_t rfl ?_)
  refine mt_define hD 1 7 mt_p8 mt_ok7 (fun d1 d2 d3 d4 d6 d7 d8 d9 d10 hD2 hC2 => ?_)
  have hS2 : mt_Sta 1 y st d1 d2 d3 d4 (upd (upd a5 0 y) 1 st) d6 d7 d8 d9 d10 a11 := ⟨hD2, hC2, Or.inr ⟨rfl, rfl⟩, rfl, hS.2.2.2.2.1, hS.2.2.2.2.2⟩
  have hY2 : mt_Dyn st st x6 a12 (upd (upd a13 0 1) 1 1) := ⟨rfl, hY.2⟩
  refine mt_next (f := 1) hS2 hY2 (by decide) (fun e14 => br_t rfl ?_)
  refine mt_step 1 (by decide) hS2 hY2 (fun f12 f13 f14 f15 hY3 hL3 => br_t rfl ?_)
  obtain ⟨_, _, l2, _⟩ := hL3 0 rfl
  rw [mt_r3] at hY3
  refine mt_value (f := 2) (by decide) (br_t (l2.trans (mt_r3 st y)) ?_)
  refine mt_next (f := 1) hS2 hY3 (by decide) (fun g14 => br_t rfl ?_)
  refine mt_reset (fun g12 g13 g15 r13 r15 => ?_)
  have hY4 : mt_Dyn st st (-1) g12 g13 := by
    unfold mt_Dyn
    rw [r13 1 (by decide), r13 4 (by decide)]
    exact ⟨rfl, rfl⟩
  refine br_t rfl (mt_value (f := 2) (by decide) (br_t (r15 2 (by decide)) ?_))
  refine mt_next (f := 2) hS2 hY4 (by decide) (fun h14 => br_t rfl ?_)
  refine mt_step 2 (by decide) hS2 hY4 (fun i12 i13 i14 i15 hY5 hL5 => br_t (by decide) ?_)
  obtain ⟨_, _, l2, _⟩ := hL5 1 rfl
  exact mt_value (f := 2) (by decide) (br_t l2 hp)
/-- the law's loop: the held value -/
theorem mt_192 {post : Int32 → St0 → Prop} {mc ms kc ks k : Nat} (hk : k ≤ 32) (hp : post 1 ()) (hS : mt_Sta 0 x st a1 a2 a3 a4 a5 a6 a7 a8 a9 a10 a11) (hY : mt_Dyn st (st + nI k * x) (mt_h x st (-1) k) a12 a13) (h15 : a15 4 = mt_h x st (-1) k) :
    ∃ n, wL_lawOf_192 post mc ms x st y (nI k) kc ks (nI k) a1 a2 a3 a4 a5 a6 a7 a8 a9 a10 a11 a12 a13 a14 a15 n (-1) 0 := by
  refine Exists.elim (pk_loop (σ := Unit) (fun n i _ => wL_lawOf_192 post mc ms x st y (nI k) kc ks (nI k) a1 a2 a3 a4 a5 a6 a7 a8 a9 a10 a11 a12 a13 a14 a15 n (mt_h x st (-1) (min i k)) (nI i)) (fun _ _ => True) 32 0 () (by omega) trivial ?_ ?_) (fun n hn => ?_)
  rotate_left 2
  · have hn' : wL_lawOf_192 post mc ms x st y (nI k) kc ks (nI k) a1 a2 a3 a4 a5 a6 a7 a8 a9 a10 a11 a12 a13 a14 a15 n (mt_h x st (-1) (min 0 k)) (nI 0) := hn
    rw [Nat.zero_min] at hn'
    exact ⟨n, hn'⟩
  · intro n _ _
    rw [show min 32 k = k by omega]
    exact mt_tail hk hp hS hY h15
  · intro n i _ hi _ hw
    have hw' := hw () trivial
    refine pk_le 32 i (fun z => absurd z (by omega)) (fun _ => nm_e (pk_le k i (fun z => nm_r (nI_1 i) ?_) (fun z => ?_)))
    · rw [show min (i + 1) k = min i k by omega] at hw'
      exact hw'
    · rw [show min (i + 1) k = i + 1 by omega] at hw'
      have e : mt_h x st (-1) (i + 1) = if 0 ≤ st + nI i * x + x then mt_h x st (-1) i else st + nI i * x + x := rfl
      rw [e, mt_r1] at hw'
      rw [show min i k = i by omega]
      refine br_c (fun g => nm_r (nI_1 i) ?_) (fun g => nm_r (nI_1 i) ?_)
      · rw [if_pos g] at hw'; exact hw'
      · rw [if_neg g] at hw'; exact hw'
end
theorem mt_lawOf {post : Int32 → St0 → Prop} (hp : post 1 ()) (x st n y : Int32) : wpL_lawOf post 156 2496 () x st n y := by
  unfold wpL_lawOf
  refine ⟨by decide, by decide, 15, 256, by decide, by decide, ?_⟩
  refine mt_init (by decide) (by decide) (K := mt_K 1 1 1 1 1) (A := mt_A 0 0 0 0) (B := mt_B 0) (S := mt_S 0) (N := mt_N 0 0 0) (by decide +kernel) mt_ok0 (fun b1 b7 b8 b9 b10 b13 hD0 _ h13 => ?_)
  obtain ⟨j, hj, ej⟩ := pk_andE n (m := 31) 5 (by decide)
  have ek : 1 + (n &&& 31) = nI (j + 1) := by
    rw [ej, Int32.add_comm, nI_1]
  refine nm_r ek ?_
  refine mt_define hD0 0 0 mt_p1 mt_ok1 (fun b1 b2 b3 b4 b6 b7 b8 b9 b10 hD1 _ => br_t rfl ?_)
  refine mt_define hD1 1 7 mt_p2 mt_ok2 (fun b1 b2 b3 b4 b6 b7 b8 b9 b10 hD2 _ => br_t rfl ?_)
  refine mt_define hD2 2 2 mt_p3 mt_ok3 (fun b1 b2 b3 b4 b6 b7 b8 b9 b10 hD3 _ => br_t rfl ?_)
  refine mt_define hD3 2 2 mt_p3b mt_ok3 (fun b1 b2 b3 b4 b6 b7 b8 b9 b10 hD4 _ => br_t rfl ?_)
  refine mt_circle (N := mt_N 3 0 0) (fun i hi => (hD4 i hi).2.2.2.2) 1 2 (by decide +kernel) (br_t rfl ?_)
  refine mt_define hD4 3 5 mt_p4 mt_ok4 (fun b1 b2 b3 b4 b6 b7 b8 b9 b10 hD5 _ => ?_)
  refine mt_define hD5 4 8 mt_p5 mt_ok5 (fun b1 b2 b3 b4 b6 b7 b8 b9 b10 hD6 _ => ?_)
  refine mt_define hD6 17 1 mt_p6 mt_ok5 (fun b1 b2 b3 b4 b6 b7 b8 b9 b10 hD7 hC7 => ?_)
  unfold wpX_input
  refine ⟨pk_in 0 4 (by decide), nm_e ⟨pk_in 0 4 (by decide), nm_e ?_⟩⟩
  refine mt_step (k0 := 0) (x := x) (st := st) (p := st) (h := -1) (j + 1) (by omega) ⟨hD7, hC7, Or.inl ⟨rfl, pk_us⟩, rfl, rfl, rfl⟩ ⟨rfl, rfl⟩ (fun d12 d13 d14 d15 hY hL => ?_)
  obtain ⟨l0, l1, l2, l4⟩ := hL j rfl
  refine br_t (Int32.zero_add _) (mt_value (f := 2) (by decide) (br_t l2 (mt_value (f := 1) (by decide) (br_t ?_ (mt_value (f := 0) (by decide) (br_t l0 ?_))))))
  · rw [nI_pred]; exact l1
  · rw [Int32.zero_add]
    exact mt_192 (by omega) hp ⟨hD7, hC7, Or.inl ⟨rfl, pk_us⟩, rfl, rfl, rfl⟩ hY l4
theorem mt_cell {post : Int32 → Prop} {L : Nat} {xs : Nat → Int32} (hL : L ≤ 4) (i : Nat) (hi : i < 4) (h : ∀ r, post r) : wpL_cellAt post L xs () (nI i) := by
  unfold wpL_cellAt
  exact pk_le L i (fun _ => h _) (fun z => ⟨pk_in i L z, h _⟩)
theorem i_vc (xs : Nat → Int32) (L : Nat) (hL : L ≤ 4) : wpL_law (fun r => r = 1) L xs := by
  unfold wpL_law
  exact mt_cell hL 0 (by decide) (fun r1 => mt_cell hL 1 (by decide) (fun r2 => mt_cell hL 2 (by decide) (fun r3 => mt_cell hL 3 (by decide) (fun r4 => ⟨156, 2496, by decide, by decide, mt_lawOf rfl r1 r2 r3 r4⟩))))
end
