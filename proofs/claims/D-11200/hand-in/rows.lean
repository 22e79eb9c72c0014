section
/-! Reflection: a Bool that, when it is true, gives the predicate -/
def ld_Im (b : Bool) (P : Prop) : Prop := b = true → P
def ld_let {α : Type} (e : α) (f : α → Bool) : Bool := f e
def ld_in (i : Int32) (n : Nat) : Bool := decide (¬ i < 0) && decide (i.toNatClampNeg < n)
def ld_nb (x : Int32) : Bool := decide (x = 0) || decide (x = 1)
theorem ld_iF {P : Prop} : ld_Im false P := fun h => absurd h (by decide)
theorem ld_and {a b : Bool} (h : (a && b) = true) : a = true ∧ b = true := by
  rw [Bool.and_eq_true] at h
  exact h
theorem ld_iIf {c A B : Prop} {d : Decidable c} {x y : Bool} (hx : ld_Im x A) (hy : ld_Im y B) : ld_Im (@ite Bool c d x y) ((c → A) ∧ (¬ c → B)) := by
  intro h
  by_cases hc : c
  · rw [if_pos hc] at h
    exact ⟨fun _ => hx h, fun z => absurd hc z⟩
  · rw [if_neg hc] at h
    exact ⟨fun z => absurd z hc, fun _ => hy h⟩
theorem ld_iDec {c P : Prop} {d : Decidable c} {x : Bool} (hx : ld_Im x P) : ld_Im (@decide c d && x) (c ∧ P) := by
  intro h
  have h' := ld_and h
  exact ⟨of_decide_eq_true h'.1, hx h'.2⟩
theorem ld_iIn {i : Int32} {n : Nat} {P : Prop} {x : Bool} (hx : ld_Im x P) : ld_Im (ld_in i n && x) (vp_in i n ∧ P) := by
  intro h
  have h' := ld_and h
  have h1 := ld_and h'.1
  have g1 : ¬ i < 0 := of_decide_eq_true h1.1
  have g2 : i.toNatClampNeg < n := of_decide_eq_true h1.2
  refine ⟨?_, hx h'.2⟩
  show ¬ (i < 0 ∨ n ≤ i.toNatClampNeg)
  intro g
  rcases g with g | g
  · exact g1 g
  · omega
theorem ld_nar {e : Int32} (h : e = 0 ∨ e = 1) : narrow .boolean (.int e) = .int e := by
  rcases h with h | h
  · rw [h]
    rfl
  · rw [h]
    rfl
theorem ld_iNb {e : Int32} {P : Prop} {x : Bool} (hx : ld_Im x P) : ld_Im (ld_nb e && x) (narrow .boolean (.int e) = .int e ∧ P) := by
  intro h
  have h' := ld_and h
  have h1 := h'.1
  unfold ld_nb at h1
  rw [Bool.or_eq_true, decide_eq_true_eq, decide_eq_true_eq] at h1
  exact ⟨ld_nar h1, hx h'.2⟩
theorem ld_iLet {α : Type} {e : α} {f : α → Bool} {P : α → Prop} (h : ∀ y, ld_Im (f y) (P y)) : ld_Im (ld_let e f) (∀ y, y = e → P y) := by
  intro hb y hy
  rw [hy]
  exact h e hb
theorem ld_iEx {b : Bool} {W : Nat → Prop} (n : Nat) (h : ld_Im b (W n)) : ld_Im b (∃ k, W k) := fun hb => ⟨n, h hb⟩
theorem ld_go {b : Bool} {P : Prop} (hb : b = true) (h : ld_Im b P) : P := h hb
end
section
/-! Printed by gen.py: Bool mirrors of the predicates, and that they are sound -/
def ld_wX_init_102 (pb : St2 → Bool) (mc : Nat) (ms : Nat) (kc : Nat) (ks : Nat) (f0_learned : Int32) (f0_rows : Int32) (f0_endings : Int32) (f0_queueEnd : Int32) : Nat → Int32 → (Nat → Int32) → (Nat → Int32) → (Nat → Int32) → (Nat → Int32) → (Nat → Int32) → (Nat → Int32) → (Nat → Int32) → (Nat → Int32) → (Nat → Int32) → (Nat → Int32) → (Nat → Int32) → (Nat → Int32) → Bool
  | 0 => fun _ _ _ _ _ _ _ _ _ _ _ _ _ => false
  | n + 1 => fun x1 am7 am15 am23 am31 am39 am47 am55 am63 am71 am79 am87 am95 => (if 7 ≤ x1 then pb (f0_learned, f0_rows, f0_endings, f0_queueEnd, am7, am15, am23, am31, am39, am47, am55, am63, am71, am79, am87, am95) else (ld_in (2 * x1) 14 && ld_let (upd am7 (2 * x1).toNatClampNeg x1) (fun am7_51 : Nat → Int32 => (ld_in ((2 * x1) + 1) 14 && ld_let (upd am7_51 ((2 * x1) + 1).toNatClampNeg x1) (fun am7_53 : Nat → Int32 => ld_let (x1 + 1) (fun x1_54 : Int32 => ld_wX_init_102 pb mc ms kc ks f0_learned f0_rows f0_endings f0_queueEnd n x1_54 am7_53 am15 am23 am31 am39 am47 am55 am63 am71 am79 am87 am95))))))
theorem ld_s_wX_init_102 {post : St2 → Prop} {pb : St2 → Bool} {mc : Nat} {ms : Nat} {kc : Nat} {ks : Nat} {f0_learned : Int32} {f0_rows : Int32} {f0_endings : Int32} {f0_queueEnd : Int32} {n : Nat} {x1 : Int32} {am7 : (Nat → Int32)} {am15 : (Nat → Int32)} {am23 : (Nat → Int32)} {am31 : (Nat → Int32)} {am39 : (Nat → Int32)} {am47 : (Nat → Int32)} {am55 : (Nat → Int32)} {am63 : (Nat → Int32)} {am71 : (Nat → Int32)} {am79 : (Nat → Int32)} {am87 : (Nat → Int32)} {am95 : (Nat → Int32)} (hp : ∀ y0, ld_Im (pb y0) (post y0)) : ld_Im (ld_wX_init_102 pb mc ms kc ks f0_learned f0_rows f0_endings f0_queueEnd n x1 am7 am15 am23 am31 am39 am47 am55 am63 am71 am79 am87 am95) (wX_init_102 post mc ms kc ks f0_learned f0_rows f0_endings f0_queueEnd n x1 am7 am15 am23 am31 am39 am47 am55 am63 am71 am79 am87 am95) := by
  revert x1 am7 am15 am23 am31 am39 am47 am55 am63 am71 am79 am87 am95
  induction n with
  | zero => intro x1 am7 am15 am23 am31 am39 am47 am55 am63 am71 am79 am87 am95; exact ld_iF
  | succ n ih =>
    intro x1 am7 am15 am23 am31 am39 am47 am55 am63 am71 am79 am87 am95
    exact ld_iIf (hp _) (ld_iIn (ld_iLet (fun am7_51 => ld_iIn (ld_iLet (fun am7_53 => ld_iLet (fun x1_54 => ih))))))
def ld_wpX_init (pb : St2 → Bool) (mc : Nat) (ms : Nat) (u : St1) : Bool := match u with
  | (f0_learned, f0_rows, f0_endings, f0_queueEnd) => (decide (1 ≤ mc) && (decide (14 ≤ ms) && (decide (2 ≤ mc) && (decide (21 ≤ ms) && (decide (3 ≤ mc) && (decide (28 ≤ ms) && (decide (4 ≤ mc) && (decide (35 ≤ ms) && (decide (5 ≤ mc) && (decide (45 ≤ ms) && (decide (6 ≤ mc) && (decide (59 ≤ ms) && (decide (7 ≤ mc) && (decide (108 ≤ ms) && (decide (8 ≤ mc) && (decide (157 ≤ ms) && (decide (9 ≤ mc) && (decide (206 ≤ ms) && (decide (10 ≤ mc) && (decide (213 ≤ ms) && (decide (11 ≤ mc) && (decide (220 ≤ ms) && (decide (12 ≤ mc) && (decide (227 ≤ ms) && ld_wX_init_102 pb mc ms 12 227 f0_learned f0_rows f0_endings f0_queueEnd 64 0 (fun _ => 0) (fun _ => 0) (fun _ => 0) (fun _ => 0) (fun _ => 0) (fun _ => 0) (fun _ => 0) (fun _ => 0) (fun _ => 0) (fun _ => 0) (fun _ => 0) (fun _ => 0)))))))))))))))))))))))))
theorem ld_s_wpX_init {post : St2 → Prop} {pb : St2 → Bool} {mc : Nat} {ms : Nat} {u : St1} (hp : ∀ y0, ld_Im (pb y0) (post y0)) : ld_Im (ld_wpX_init pb mc ms u) (wpX_init post mc ms u) := by
  obtain ⟨f0_learned, f0_rows, f0_endings, f0_queueEnd⟩ := u
  unfold ld_wpX_init wpX_init
  exact ld_iDec (ld_iDec (ld_iDec (ld_iDec (ld_iDec (ld_iDec (ld_iDec (ld_iDec (ld_iDec (ld_iDec (ld_iDec (ld_iDec (ld_iDec (ld_iDec (ld_iDec (ld_iDec (ld_iDec (ld_iDec (ld_iDec (ld_iDec (ld_iDec (ld_iDec (ld_iDec (ld_iDec (ld_iEx 64 (ld_s_wX_init_102 hp)))))))))))))))))))))))))
def ld_wpX_arrow (pb : Int32 → St2 → Bool) (u : St2) (p0 : Int32) (p1 : Int32) (p2 : Int32) : Bool := match u with
  | (f0_learned, f0_rows, f0_endings, f0_queueEnd, a1, a2, a3, a4, a5, a6, a7, a8, a9, a10, a11, a12) => (if p0 < 0 then pb (-1) (f0_learned, f0_rows, f0_endings, f0_queueEnd, a1, a2, a3, a4, a5, a6, a7, a8, a9, a10, a11, a12) else (if 6 < p0 then pb (-1) (f0_learned, f0_rows, f0_endings, f0_queueEnd, a1, a2, a3, a4, a5, a6, a7, a8, a9, a10, a11, a12) else (if p2 < 0 then pb (-1) (f0_learned, f0_rows, f0_endings, f0_queueEnd, a1, a2, a3, a4, a5, a6, a7, a8, a9, a10, a11, a12) else (if p2 ≤ 6 then (ld_in ((2 * p0) + (p1 &&& 1)) 14 && ld_let (upd a1 ((2 * p0) + (p1 &&& 1)).toNatClampNeg p2) (fun a1_6 : Nat → Int32 => pb 0 (0, f0_rows, f0_endings, f0_queueEnd, a1_6, a2, a3, a4, a5, a6, a7, a8, a9, a10, a11, a12))) else pb (-1) (f0_learned, f0_rows, f0_endings, f0_queueEnd, a1, a2, a3, a4, a5, a6, a7, a8, a9, a10, a11, a12)))))
theorem ld_s_wpX_arrow {post : Int32 → St2 → Prop} {pb : Int32 → St2 → Bool} {u : St2} {p0 : Int32} {p1 : Int32} {p2 : Int32} (hp : ∀ y0 y1, ld_Im (pb y0 y1) (post y0 y1)) : ld_Im (ld_wpX_arrow pb u p0 p1 p2) (wpX_arrow post u p0 p1 p2) := by
  obtain ⟨f0_learned, f0_rows, f0_endings, f0_queueEnd, a1, a2, a3, a4, a5, a6, a7, a8, a9, a10, a11, a12⟩ := u
  unfold ld_wpX_arrow wpX_arrow
  exact ld_iIf (hp _ _) (ld_iIf (hp _ _) (ld_iIf (hp _ _) (ld_iIf (ld_iIn (ld_iLet (fun a1_6 => hp _ _))) (hp _ _))))
def ld_wpX_good (pb : Int32 → St2 → Bool) (u : St2) (p0 : Int32) (p1 : Int32) : Bool := match u with
  | (f0_learned, f0_rows, f0_endings, f0_queueEnd, a1, a2, a3, a4, a5, a6, a7, a8, a9, a10, a11, a12) => (if p0 < 0 then pb (-1) (f0_learned, f0_rows, f0_endings, f0_queueEnd, a1, a2, a3, a4, a5, a6, a7, a8, a9, a10, a11, a12) else (if p0 ≤ 6 then (ld_in p0 7 && ld_let (upd a2 p0.toNatClampNeg (vp_nar .boolean p1)) (fun a2_4 : Nat → Int32 => pb 0 (0, f0_rows, f0_endings, f0_queueEnd, a1, a2_4, a3, a4, a5, a6, a7, a8, a9, a10, a11, a12))) else pb (-1) (f0_learned, f0_rows, f0_endings, f0_queueEnd, a1, a2, a3, a4, a5, a6, a7, a8, a9, a10, a11, a12)))
theorem ld_s_wpX_good {post : Int32 → St2 → Prop} {pb : Int32 → St2 → Bool} {u : St2} {p0 : Int32} {p1 : Int32} (hp : ∀ y0 y1, ld_Im (pb y0 y1) (post y0 y1)) : ld_Im (ld_wpX_good pb u p0 p1) (wpX_good post u p0 p1) := by
  obtain ⟨f0_learned, f0_rows, f0_endings, f0_queueEnd, a1, a2, a3, a4, a5, a6, a7, a8, a9, a10, a11, a12⟩ := u
  unfold ld_wpX_good wpX_good
  exact ld_iIf (hp _ _) (ld_iIf (ld_iIn (ld_iLet (fun a2_4 => hp _ _))) (hp _ _))
def ld_wX_orderKinds_59 (pb : St2 → Bool) (J46b : Int32 → Int32 → (Nat → Int32) → (Nat → Int32) → (Nat → Int32) → (Nat → Int32) → (Nat → Int32) → (Nat → Int32) → (Nat → Int32) → (Nat → Int32) → (Nat → Int32) → (Nat → Int32) → (Nat → Int32) → (Nat → Int32) → Bool) (x2 : Int32) (f0_learned : Int32) (f0_rows : Int32) (f0_endings : Int32) (f0_queueEnd : Int32) : Nat → Int32 → Int32 → (Nat → Int32) → (Nat → Int32) → (Nat → Int32) → (Nat → Int32) → (Nat → Int32) → (Nat → Int32) → (Nat → Int32) → (Nat → Int32) → (Nat → Int32) → (Nat → Int32) → (Nat → Int32) → (Nat → Int32) → Bool
  | 0 => fun _ _ _ _ _ _ _ _ _ _ _ _ _ _ => false
  | n + 1 => fun x1 x3 a1 a2 a3 a4 a5 a6 a7 a8 a9 a10 a11 a12 => (if 2 ≤ x3 then ld_let (x2 + 1) (fun x2_11 : Int32 => J46b x1 x2_11 a1 a2 a3 a4 a5 a6 a7 a8 a9 a10 a11 a12) else (ld_in x2 7 && (ld_in ((2 * (a10 x2.toNatClampNeg)) + x3) 14 && ld_let (a6 ((2 * (a10 x2.toNatClampNeg)) + x3).toNatClampNeg) (fun x4_14 : Int32 => (ld_in x4_14 7 && (if 0 ≤ (a11 x4_14.toNatClampNeg) then ld_let (x3 + 1) (fun x3_17 : Int32 => ld_wX_orderKinds_59 pb J46b x2 f0_learned f0_rows f0_endings f0_queueEnd n x1 x3_17 a1 a2 a3 a4 a5 a6 a7 a8 a9 a10 a11 a12) else (ld_in x4_14 7 && ld_let (upd a11 x4_14.toNatClampNeg x1) (fun a11_19 : Nat → Int32 => (ld_in x1 7 && ld_let (upd a10 x1.toNatClampNeg x4_14) (fun a10_21 : Nat → Int32 => (ld_in x2 7 && (ld_in x1 7 && ld_let (upd a12 x1.toNatClampNeg ((2 * (a12 x2.toNatClampNeg)) + x3)) (fun a12_24 : Nat → Int32 => ld_let (x1 + 1) (fun x1_25 : Int32 => ld_let (x3 + 1) (fun x3_26 : Int32 => ld_wX_orderKinds_59 pb J46b x2 f0_learned f0_rows f0_endings f0_queueEnd n x1_25 x3_26 a1 a2 a3 a4 a5 a6 a7 a8 a9 a10_21 a11_19 a12_24)))))))))))))))
theorem ld_s_wX_orderKinds_59 {post : St2 → Prop} {pb : St2 → Bool} {J46 : Int32 → Int32 → (Nat → Int32) → (Nat → Int32) → (Nat → Int32) → (Nat → Int32) → (Nat → Int32) → (Nat → Int32) → (Nat → Int32) → (Nat → Int32) → (Nat → Int32) → (Nat → Int32) → (Nat → Int32) → (Nat → Int32) → Prop} {J46b : Int32 → Int32 → (Nat → Int32) → (Nat → Int32) → (Nat → Int32) → (Nat → Int32) → (Nat → Int32) → (Nat → Int32) → (Nat → Int32) → (Nat → Int32) → (Nat → Int32) → (Nat → Int32) → (Nat → Int32) → (Nat → Int32) → Bool} {x2 : Int32} {f0_learned : Int32} {f0_rows : Int32} {f0_endings : Int32} {f0_queueEnd : Int32} {n : Nat} {x1 : Int32} {x3 : Int32} {a1 : (Nat → Int32)} {a2 : (Nat → Int32)} {a3 : (Nat → Int32)} {a4 : (Nat → Int32)} {a5 : (Nat → Int32)} {a6 : (Nat → Int32)} {a7 : (Nat → Int32)} {a8 : (Nat → Int32)} {a9 : (Nat → Int32)} {a10 : (Nat → Int32)} {a11 : (Nat → Int32)} {a12 : (Nat → Int32)} (hp : ∀ y0, ld_Im (pb y0) (post y0)) (hJ46 : ∀ y0 y1 y2 y3 y4 y5 y6 y7 y8 y9 y10 y11 y12 y13, ld_Im (J46b y0 y1 y2 y3 y4 y5 y6 y7 y8 y9 y10 y11 y12 y13) (J46 y0 y1 y2 y3 y4 y5 y6 y7 y8 y9 y10 y11 y12 y13)) : ld_Im (ld_wX_orderKinds_59 pb J46b x2 f0_learned f0_rows f0_endings f0_queueEnd n x1 x3 a1 a2 a3 a4 a5 a6 a7 a8 a9 a10 a11 a12) (wX_orderKinds_59 post J46 x2 f0_learned f0_rows f0_endings f0_queueEnd n x1 x3 a1 a2 a3 a4 a5 a6 a7 a8 a9 a10 a11 a12) := by
  revert x1 x3 a1 a2 a3 a4 a5 a6 a7 a8 a9 a10 a11 a12
  induction n with
  | zero => intro x1 x3 a1 a2 a3 a4 a5 a6 a7 a8 a9 a10 a11 a12; exact ld_iF
  | succ n ih =>
    intro x1 x3 a1 a2 a3 a4 a5 a6 a7 a8 a9 a10 a11 a12
    exact ld_iIf (ld_iLet (fun x2_11 => hJ46 _ _ _ _ _ _ _ _ _ _ _ _ _ _)) (ld_iIn (ld_iIn (ld_iLet (fun x4_14 => ld_iIn (ld_iIf (ld_iLet (fun x3_17 => ih)) (ld_iIn (ld_iLet (fun a11_19 => ld_iIn (ld_iLet (fun a10_21 => ld_iIn (ld_iIn (ld_iLet (fun a12_24 => ld_iLet (fun x1_25 => ld_iLet (fun x3_26 => ih)))))))))))))))
def ld_wX_orderKinds_46 (pb : St2 → Bool) (f0_learned : Int32) (f0_rows : Int32) (f0_endings : Int32) (f0_queueEnd : Int32) : Nat → Int32 → Int32 → (Nat → Int32) → (Nat → Int32) → (Nat → Int32) → (Nat → Int32) → (Nat → Int32) → (Nat → Int32) → (Nat → Int32) → (Nat → Int32) → (Nat → Int32) → (Nat → Int32) → (Nat → Int32) → (Nat → Int32) → Bool
  | 0 => fun _ _ _ _ _ _ _ _ _ _ _ _ _ _ => false
  | n + 1 => fun x1 x2 a1 a2 a3 a4 a5 a6 a7 a8 a9 a10 a11 a12 => (if x1 ≤ x2 then pb (f0_learned, f0_rows, f0_endings, f0_queueEnd, a1, a2, a3, a4, a5, a6, a7, a8, a9, a10, a11, a12) else (if 7 ≤ x2 then pb (f0_learned, f0_rows, f0_endings, f0_queueEnd, a1, a2, a3, a4, a5, a6, a7, a8, a9, a10, a11, a12) else ld_wX_orderKinds_59 pb (ld_wX_orderKinds_46 pb f0_learned f0_rows f0_endings f0_queueEnd n) x2 f0_learned f0_rows f0_endings f0_queueEnd 64 x1 0 a1 a2 a3 a4 a5 a6 a7 a8 a9 a10 a11 a12))
theorem ld_s_wX_orderKinds_46 {post : St2 → Prop} {pb : St2 → Bool} {f0_learned : Int32} {f0_rows : Int32} {f0_endings : Int32} {f0_queueEnd : Int32} {n : Nat} {x1 : Int32} {x2 : Int32} {a1 : (Nat → Int32)} {a2 : (Nat → Int32)} {a3 : (Nat → Int32)} {a4 : (Nat → Int32)} {a5 : (Nat → Int32)} {a6 : (Nat → Int32)} {a7 : (Nat → Int32)} {a8 : (Nat → Int32)} {a9 : (Nat → Int32)} {a10 : (Nat → Int32)} {a11 : (Nat → Int32)} {a12 : (Nat → Int32)} (hp : ∀ y0, ld_Im (pb y0) (post y0)) : ld_Im (ld_wX_orderKinds_46 pb f0_learned f0_rows f0_endings f0_queueEnd n x1 x2 a1 a2 a3 a4 a5 a6 a7 a8 a9 a10 a11 a12) (wX_orderKinds_46 post f0_learned f0_rows f0_endings f0_queueEnd n x1 x2 a1 a2 a3 a4 a5 a6 a7 a8 a9 a10 a11 a12) := by
  revert x1 x2 a1 a2 a3 a4 a5 a6 a7 a8 a9 a10 a11 a12
  induction n with
  | zero => intro x1 x2 a1 a2 a3 a4 a5 a6 a7 a8 a9 a10 a11 a12; exact ld_iF
  | succ n ih =>
    intro x1 x2 a1 a2 a3 a4 a5 a6 a7 a8 a9 a10 a11 a12
    exact ld_iIf (hp _) (ld_iIf (hp _) (ld_iEx 64 (ld_s_wX_orderKinds_59 hp @ih)))
def ld_wX_orderKinds_2 (pb : St2 → Bool) (f0_learned : Int32) (f0_rows : Int32) (f0_endings : Int32) (f0_queueEnd : Int32) : Nat → Int32 → (Nat → Int32) → (Nat → Int32) → (Nat → Int32) → (Nat → Int32) → (Nat → Int32) → (Nat → Int32) → (Nat → Int32) → (Nat → Int32) → (Nat → Int32) → (Nat → Int32) → (Nat → Int32) → (Nat → Int32) → Bool
  | 0 => fun _ _ _ _ _ _ _ _ _ _ _ _ _ => false
  | n + 1 => fun x1 a1 a2 a3 a4 a5 a6 a7 a8 a9 a10 a11 a12 => (if 7 ≤ x1 then ld_let (upd a10 0 0) (fun a10_3 : Nat → Int32 => ld_let (upd a11 0 0) (fun a11_5 : Nat → Int32 => ld_let (upd a12 0 1) (fun a12_7 : Nat → Int32 => ld_wX_orderKinds_46 pb f0_learned f0_rows f0_endings f0_queueEnd 64 1 0 a1 a2 a3 a4 a5 a6 a7 a8 a9 a10_3 a11_5 a12_7))) else (ld_in x1 7 && ld_let (upd a11 x1.toNatClampNeg (-1)) (fun a11_28 : Nat → Int32 => ld_let (x1 + 1) (fun x1_29 : Int32 => ld_wX_orderKinds_2 pb f0_learned f0_rows f0_endings f0_queueEnd n x1_29 a1 a2 a3 a4 a5 a6 a7 a8 a9 a10 a11_28 a12))))
theorem ld_s_wX_orderKinds_2 {post : St2 → Prop} {pb : St2 → Bool} {f0_learned : Int32} {f0_rows : Int32} {f0_endings : Int32} {f0_queueEnd : Int32} {n : Nat} {x1 : Int32} {a1 : (Nat → Int32)} {a2 : (Nat → Int32)} {a3 : (Nat → Int32)} {a4 : (Nat → Int32)} {a5 : (Nat → Int32)} {a6 : (Nat → Int32)} {a7 : (Nat → Int32)} {a8 : (Nat → Int32)} {a9 : (Nat → Int32)} {a10 : (Nat → Int32)} {a11 : (Nat → Int32)} {a12 : (Nat → Int32)} (hp : ∀ y0, ld_Im (pb y0) (post y0)) : ld_Im (ld_wX_orderKinds_2 pb f0_learned f0_rows f0_endings f0_queueEnd n x1 a1 a2 a3 a4 a5 a6 a7 a8 a9 a10 a11 a12) (wX_orderKinds_2 post f0_learned f0_rows f0_endings f0_queueEnd n x1 a1 a2 a3 a4 a5 a6 a7 a8 a9 a10 a11 a12) := by
  revert x1 a1 a2 a3 a4 a5 a6 a7 a8 a9 a10 a11 a12
  induction n with
  | zero => intro x1 a1 a2 a3 a4 a5 a6 a7 a8 a9 a10 a11 a12; exact ld_iF
  | succ n ih =>
    intro x1 a1 a2 a3 a4 a5 a6 a7 a8 a9 a10 a11 a12
    exact ld_iIf (ld_iLet (fun a10_3 => ld_iLet (fun a11_5 => ld_iLet (fun a12_7 => ld_iEx 64 (ld_s_wX_orderKinds_46 hp))))) (ld_iIn (ld_iLet (fun a11_28 => ld_iLet (fun x1_29 => ih))))
def ld_wpX_orderKinds (pb : St2 → Bool) (u : St2) : Bool := match u with
  | (f0_learned, f0_rows, f0_endings, f0_queueEnd, a1, a2, a3, a4, a5, a6, a7, a8, a9, a10, a11, a12) => ld_wX_orderKinds_2 pb f0_learned f0_rows f0_endings f0_queueEnd 64 0 a1 a2 a3 a4 a5 a6 a7 a8 a9 a10 a11 a12
theorem ld_s_wpX_orderKinds {post : St2 → Prop} {pb : St2 → Bool} {u : St2} (hp : ∀ y0, ld_Im (pb y0) (post y0)) : ld_Im (ld_wpX_orderKinds pb u) (wpX_orderKinds post u) := by
  obtain ⟨f0_learned, f0_rows, f0_endings, f0_queueEnd, a1, a2, a3, a4, a5, a6, a7, a8, a9, a10, a11, a12⟩ := u
  unfold ld_wpX_orderKinds wpX_orderKinds
  exact ld_iEx 64 (ld_s_wX_orderKinds_2 hp)
def ld_wX_lengthOf_4 (pb : Int32 → Bool) (x0 : Int32) : Nat → Int32 → Int32 → Bool
  | 0 => fun _ _ => false
  | n + 1 => fun x1 x2 => (if 31 ≤ x2 then pb x1 else (if ((x0.toUInt32 >>> (x2.toUInt32 &&& Int32.toUInt32 31)).toInt32) = 0 then ld_let (x2 + 1) (fun x2_3 : Int32 => ld_wX_lengthOf_4 pb x0 n x1 x2_3) else ld_let (x2 + 1) (fun x2_4 : Int32 => ld_wX_lengthOf_4 pb x0 n x2 x2_4)))
theorem ld_s_wX_lengthOf_4 {post : Int32 → Prop} {pb : Int32 → Bool} {x0 : Int32} {n : Nat} {x1 : Int32} {x2 : Int32} (hp : ∀ y0, ld_Im (pb y0) (post y0)) : ld_Im (ld_wX_lengthOf_4 pb x0 n x1 x2) (wX_lengthOf_4 post x0 n x1 x2) := by
  revert x1 x2
  induction n with
  | zero => intro x1 x2; exact ld_iF
  | succ n ih =>
    intro x1 x2
    exact ld_iIf (hp _) (ld_iIf (ld_iLet (fun x2_3 => ih)) (ld_iLet (fun x2_4 => ih)))
def ld_wpX_lengthOf (pb : Int32 → Bool) (u : St0) (p0 : Int32) : Bool := ld_wX_lengthOf_4 pb p0 64 0 1
theorem ld_s_wpX_lengthOf {post : Int32 → Prop} {pb : Int32 → Bool} {u : St0} {p0 : Int32} (hp : ∀ y0, ld_Im (pb y0) (post y0)) : ld_Im (ld_wpX_lengthOf pb u p0) (wpX_lengthOf post u p0) := by
  unfold ld_wpX_lengthOf wpX_lengthOf
  exact ld_iEx 64 (ld_s_wX_lengthOf_4 hp)
def ld_wpX_join (pb : Int32 → Bool) (u : St0) (p0 : Int32) (p1 : Int32) : Bool := ld_wpX_lengthOf (fun r_1 => pb ((p0 <<< (r_1 &&& 31)) ||| (p1 &&& (((1 : Int32) <<< (r_1 &&& 31)) - 1)))) () p1
theorem ld_s_wpX_join {post : Int32 → Prop} {pb : Int32 → Bool} {u : St0} {p0 : Int32} {p1 : Int32} (hp : ∀ y0, ld_Im (pb y0) (post y0)) : ld_Im (ld_wpX_join pb u p0 p1) (wpX_join post u p0 p1) := by
  unfold ld_wpX_join wpX_join
  exact ld_s_wpX_lengthOf (fun r_1 => hp _)
def ld_wX_isGoodWord_9 (pb : Int32 → Bool) (x1 : Int32) (f0_learned : Int32) (f0_rows : Int32) (f0_endings : Int32) (f0_queueEnd : Int32) (a1 : Nat → Int32) (a2 : Nat → Int32) (a3 : Nat → Int32) (a4 : Nat → Int32) (a5 : Nat → Int32) (a6 : Nat → Int32) (a7 : Nat → Int32) (a8 : Nat → Int32) (a9 : Nat → Int32) (a10 : Nat → Int32) (a11 : Nat → Int32) (a12 : Nat → Int32) : Nat → Int32 → Int32 → Bool
  | 0 => fun _ _ => false
  | n + 1 => fun x2 x3 => (if x3 < 0 then (ld_in x2 7 && (ld_nb (a2 x2.toNatClampNeg) && pb (a2 x2.toNatClampNeg))) else (ld_in ((2 * x2) + (((x1.toUInt32 >>> (x3.toUInt32 &&& Int32.toUInt32 31)).toInt32) &&& 1)) 14 && ld_let (a1 ((2 * x2) + (((x1.toUInt32 >>> (x3.toUInt32 &&& Int32.toUInt32 31)).toInt32) &&& 1)).toNatClampNeg) (fun x2_7 : Int32 => ld_let (x3 + (-1)) (fun x3_8 : Int32 => ld_wX_isGoodWord_9 pb x1 f0_learned f0_rows f0_endings f0_queueEnd a1 a2 a3 a4 a5 a6 a7 a8 a9 a10 a11 a12 n x2_7 x3_8))))
theorem ld_s_wX_isGoodWord_9 {post : Int32 → Prop} {pb : Int32 → Bool} {x1 : Int32} {f0_learned : Int32} {f0_rows : Int32} {f0_endings : Int32} {f0_queueEnd : Int32} {a1 : Nat → Int32} {a2 : Nat → Int32} {a3 : Nat → Int32} {a4 : Nat → Int32} {a5 : Nat → Int32} {a6 : Nat → Int32} {a7 : Nat → Int32} {a8 : Nat → Int32} {a9 : Nat → Int32} {a10 : Nat → Int32} {a11 : Nat → Int32} {a12 : Nat → Int32} {n : Nat} {x2 : Int32} {x3 : Int32} (hp : ∀ y0, ld_Im (pb y0) (post y0)) : ld_Im (ld_wX_isGoodWord_9 pb x1 f0_learned f0_rows f0_endings f0_queueEnd a1 a2 a3 a4 a5 a6 a7 a8 a9 a10 a11 a12 n x2 x3) (wX_isGoodWord_9 post x1 f0_learned f0_rows f0_endings f0_queueEnd a1 a2 a3 a4 a5 a6 a7 a8 a9 a10 a11 a12 n x2 x3) := by
  revert x2 x3
  induction n with
  | zero => intro x2 x3; exact ld_iF
  | succ n ih =>
    intro x2 x3
    exact ld_iIf (ld_iIn (ld_iNb (hp _))) (ld_iIn (ld_iLet (fun x2_7 => ld_iLet (fun x3_8 => ih))))
def ld_wpX_isGoodWord (pb : Int32 → Bool) (u : St2) (p0 : Int32) : Bool := match u with
  | (f0_learned, f0_rows, f0_endings, f0_queueEnd, a1, a2, a3, a4, a5, a6, a7, a8, a9, a10, a11, a12) => ld_wpX_lengthOf (fun r_1 => ld_let (r_1 - 1) (fun x3_2 : Int32 => ld_wX_isGoodWord_9 pb p0 f0_learned f0_rows f0_endings f0_queueEnd a1 a2 a3 a4 a5 a6 a7 a8 a9 a10 a11 a12 64 0 x3_2)) () p0
theorem ld_s_wpX_isGoodWord {post : Int32 → Prop} {pb : Int32 → Bool} {u : St2} {p0 : Int32} (hp : ∀ y0, ld_Im (pb y0) (post y0)) : ld_Im (ld_wpX_isGoodWord pb u p0) (wpX_isGoodWord post u p0) := by
  obtain ⟨f0_learned, f0_rows, f0_endings, f0_queueEnd, a1, a2, a3, a4, a5, a6, a7, a8, a9, a10, a11, a12⟩ := u
  unfold ld_wpX_isGoodWord wpX_isGoodWord
  exact ld_s_wpX_lengthOf (fun r_1 => ld_iLet (fun x3_2 => ld_iEx 64 (ld_s_wX_isGoodWord_9 hp)))
def ld_wX_answersOf_4 (pb : Int32 → Bool) (x1 : Int32) (f0_learned : Int32) (f0_rows : Int32) (f0_endings : Int32) (f0_queueEnd : Int32) (a1 : Nat → Int32) (a2 : Nat → Int32) (a3 : Nat → Int32) (a4 : Nat → Int32) (a5 : Nat → Int32) (a6 : Nat → Int32) (a7 : Nat → Int32) (a8 : Nat → Int32) (a9 : Nat → Int32) (a10 : Nat → Int32) (a11 : Nat → Int32) (a12 : Nat → Int32) : Nat → Int32 → Int32 → Bool
  | 0 => fun _ _ => false
  | n + 1 => fun x2 x3 => (if f0_endings ≤ x3 then pb x2 else (ld_in x3 10 && ld_wpX_join (fun r_3 => ld_wpX_isGoodWord (fun r_4 => (if r_4 = 0 then ld_let (x2 ||| 0) (fun x2_6 : Int32 => ld_let (x3 + 1) (fun x3_7 : Int32 => ld_wX_answersOf_4 pb x1 f0_learned f0_rows f0_endings f0_queueEnd a1 a2 a3 a4 a5 a6 a7 a8 a9 a10 a11 a12 n x2_6 x3_7)) else ld_let (x2 ||| ((1 : Int32) <<< (x3 &&& 31))) (fun x2_8 : Int32 => ld_let (x3 + 1) (fun x3_9 : Int32 => ld_wX_answersOf_4 pb x1 f0_learned f0_rows f0_endings f0_queueEnd a1 a2 a3 a4 a5 a6 a7 a8 a9 a10 a11 a12 n x2_8 x3_9)))) (f0_learned, f0_rows, f0_endings, f0_queueEnd, a1, a2, a3, a4, a5, a6, a7, a8, a9, a10, a11, a12) r_3) () x1 (a5 x3.toNatClampNeg)))
theorem ld_s_wX_answersOf_4 {post : Int32 → Prop} {pb : Int32 → Bool} {x1 : Int32} {f0_learned : Int32} {f0_rows : Int32} {f0_endings : Int32} {f0_queueEnd : Int32} {a1 : Nat → Int32} {a2 : Nat → Int32} {a3 : Nat → Int32} {a4 : Nat → Int32} {a5 : Nat → Int32} {a6 : Nat → Int32} {a7 : Nat → Int32} {a8 : Nat → Int32} {a9 : Nat → Int32} {a10 : Nat → Int32} {a11 : Nat → Int32} {a12 : Nat → Int32} {n : Nat} {x2 : Int32} {x3 : Int32} (hp : ∀ y0, ld_Im (pb y0) (post y0)) : ld_Im (ld_wX_answersOf_4 pb x1 f0_learned f0_rows f0_endings f0_queueEnd a1 a2 a3 a4 a5 a6 a7 a8 a9 a10 a11 a12 n x2 x3) (wX_answersOf_4 post x1 f0_learned f0_rows f0_endings f0_queueEnd a1 a2 a3 a4 a5 a6 a7 a8 a9 a10 a11 a12 n x2 x3) := by
  revert x2 x3
  induction n with
  | zero => intro x2 x3; exact ld_iF
  | succ n ih =>
    intro x2 x3
    exact ld_iIf (hp _) (ld_iIn (ld_s_wpX_join (fun r_3 => ld_s_wpX_isGoodWord (fun r_4 => ld_iIf (ld_iLet (fun x2_6 => ld_iLet (fun x3_7 => ih))) (ld_iLet (fun x2_8 => ld_iLet (fun x3_9 => ih)))))))
def ld_wpX_answersOf (pb : Int32 → Bool) (u : St2) (p0 : Int32) : Bool := match u with
  | (f0_learned, f0_rows, f0_endings, f0_queueEnd, a1, a2, a3, a4, a5, a6, a7, a8, a9, a10, a11, a12) => ld_wX_answersOf_4 pb p0 f0_learned f0_rows f0_endings f0_queueEnd a1 a2 a3 a4 a5 a6 a7 a8 a9 a10 a11 a12 64 0 0
theorem ld_s_wpX_answersOf {post : Int32 → Prop} {pb : Int32 → Bool} {u : St2} {p0 : Int32} (hp : ∀ y0, ld_Im (pb y0) (post y0)) : ld_Im (ld_wpX_answersOf pb u p0) (wpX_answersOf post u p0) := by
  obtain ⟨f0_learned, f0_rows, f0_endings, f0_queueEnd, a1, a2, a3, a4, a5, a6, a7, a8, a9, a10, a11, a12⟩ := u
  unfold ld_wpX_answersOf wpX_answersOf
  exact ld_iEx 64 (ld_s_wX_answersOf_4 hp)
def ld_wX_fillRows_2 (pb : St2 → Bool) (f0_learned : Int32) (f0_rows : Int32) (f0_endings : Int32) (f0_queueEnd : Int32) : Nat → Int32 → (Nat → Int32) → (Nat → Int32) → (Nat → Int32) → (Nat → Int32) → (Nat → Int32) → (Nat → Int32) → (Nat → Int32) → (Nat → Int32) → (Nat → Int32) → (Nat → Int32) → (Nat → Int32) → (Nat → Int32) → Bool
  | 0 => fun _ _ _ _ _ _ _ _ _ _ _ _ _ => false
  | n + 1 => fun x1 a1 a2 a3 a4 a5 a6 a7 a8 a9 a10 a11 a12 => (if f0_rows ≤ x1 then pb (f0_learned, f0_rows, f0_endings, f0_queueEnd, a1, a2, a3, a4, a5, a6, a7, a8, a9, a10, a11, a12) else (ld_in x1 7 && ld_wpX_answersOf (fun r_3 => (ld_in x1 7 && ld_let (upd a4 x1.toNatClampNeg r_3) (fun a4_5 : Nat → Int32 => ld_let (x1 + 1) (fun x1_6 : Int32 => ld_wX_fillRows_2 pb f0_learned f0_rows f0_endings f0_queueEnd n x1_6 a1 a2 a3 a4_5 a5 a6 a7 a8 a9 a10 a11 a12)))) (f0_learned, f0_rows, f0_endings, f0_queueEnd, a1, a2, a3, a4, a5, a6, a7, a8, a9, a10, a11, a12) (a3 x1.toNatClampNeg)))
theorem ld_s_wX_fillRows_2 {post : St2 → Prop} {pb : St2 → Bool} {f0_learned : Int32} {f0_rows : Int32} {f0_endings : Int32} {f0_queueEnd : Int32} {n : Nat} {x1 : Int32} {a1 : (Nat → Int32)} {a2 : (Nat → Int32)} {a3 : (Nat → Int32)} {a4 : (Nat → Int32)} {a5 : (Nat → Int32)} {a6 : (Nat → Int32)} {a7 : (Nat → Int32)} {a8 : (Nat → Int32)} {a9 : (Nat → Int32)} {a10 : (Nat → Int32)} {a11 : (Nat → Int32)} {a12 : (Nat → Int32)} (hp : ∀ y0, ld_Im (pb y0) (post y0)) : ld_Im (ld_wX_fillRows_2 pb f0_learned f0_rows f0_endings f0_queueEnd n x1 a1 a2 a3 a4 a5 a6 a7 a8 a9 a10 a11 a12) (wX_fillRows_2 post f0_learned f0_rows f0_endings f0_queueEnd n x1 a1 a2 a3 a4 a5 a6 a7 a8 a9 a10 a11 a12) := by
  revert x1 a1 a2 a3 a4 a5 a6 a7 a8 a9 a10 a11 a12
  induction n with
  | zero => intro x1 a1 a2 a3 a4 a5 a6 a7 a8 a9 a10 a11 a12; exact ld_iF
  | succ n ih =>
    intro x1 a1 a2 a3 a4 a5 a6 a7 a8 a9 a10 a11 a12
    exact ld_iIf (hp _) (ld_iIn (ld_s_wpX_answersOf (fun r_3 => ld_iIn (ld_iLet (fun a4_5 => ld_iLet (fun x1_6 => ih))))))
def ld_wpX_fillRows (pb : St2 → Bool) (u : St2) : Bool := match u with
  | (f0_learned, f0_rows, f0_endings, f0_queueEnd, a1, a2, a3, a4, a5, a6, a7, a8, a9, a10, a11, a12) => ld_wX_fillRows_2 pb f0_learned f0_rows f0_endings f0_queueEnd 64 0 a1 a2 a3 a4 a5 a6 a7 a8 a9 a10 a11 a12
theorem ld_s_wpX_fillRows {post : St2 → Prop} {pb : St2 → Bool} {u : St2} (hp : ∀ y0, ld_Im (pb y0) (post y0)) : ld_Im (ld_wpX_fillRows pb u) (wpX_fillRows post u) := by
  obtain ⟨f0_learned, f0_rows, f0_endings, f0_queueEnd, a1, a2, a3, a4, a5, a6, a7, a8, a9, a10, a11, a12⟩ := u
  unfold ld_wpX_fillRows wpX_fillRows
  exact ld_iEx 64 (ld_s_wX_fillRows_2 hp)
def ld_wX_rowWith_2 (pb : Int32 → Bool) (x1 : Int32) (f0_learned : Int32) (f0_rows : Int32) (f0_endings : Int32) (f0_queueEnd : Int32) (a1 : Nat → Int32) (a2 : Nat → Int32) (a3 : Nat → Int32) (a4 : Nat → Int32) (a5 : Nat → Int32) (a6 : Nat → Int32) (a7 : Nat → Int32) (a8 : Nat → Int32) (a9 : Nat → Int32) (a10 : Nat → Int32) (a11 : Nat → Int32) (a12 : Nat → Int32) : Nat → Int32 → Bool
  | 0 => fun _ => false
  | n + 1 => fun x2 => (if f0_rows ≤ x2 then pb (-1) else (ld_in x2 7 && (if (a4 x2.toNatClampNeg) = x1 then pb x2 else ld_let (x2 + 1) (fun x2_4 : Int32 => ld_wX_rowWith_2 pb x1 f0_learned f0_rows f0_endings f0_queueEnd a1 a2 a3 a4 a5 a6 a7 a8 a9 a10 a11 a12 n x2_4))))
theorem ld_s_wX_rowWith_2 {post : Int32 → Prop} {pb : Int32 → Bool} {x1 : Int32} {f0_learned : Int32} {f0_rows : Int32} {f0_endings : Int32} {f0_queueEnd : Int32} {a1 : Nat → Int32} {a2 : Nat → Int32} {a3 : Nat → Int32} {a4 : Nat → Int32} {a5 : Nat → Int32} {a6 : Nat → Int32} {a7 : Nat → Int32} {a8 : Nat → Int32} {a9 : Nat → Int32} {a10 : Nat → Int32} {a11 : Nat → Int32} {a12 : Nat → Int32} {n : Nat} {x2 : Int32} (hp : ∀ y0, ld_Im (pb y0) (post y0)) : ld_Im (ld_wX_rowWith_2 pb x1 f0_learned f0_rows f0_endings f0_queueEnd a1 a2 a3 a4 a5 a6 a7 a8 a9 a10 a11 a12 n x2) (wX_rowWith_2 post x1 f0_learned f0_rows f0_endings f0_queueEnd a1 a2 a3 a4 a5 a6 a7 a8 a9 a10 a11 a12 n x2) := by
  revert x2
  induction n with
  | zero => intro x2; exact ld_iF
  | succ n ih =>
    intro x2
    exact ld_iIf (hp _) (ld_iIn (ld_iIf (hp _) (ld_iLet (fun x2_4 => ih))))
def ld_wpX_rowWith (pb : Int32 → Bool) (u : St2) (p0 : Int32) : Bool := match u with
  | (f0_learned, f0_rows, f0_endings, f0_queueEnd, a1, a2, a3, a4, a5, a6, a7, a8, a9, a10, a11, a12) => ld_wX_rowWith_2 pb p0 f0_learned f0_rows f0_endings f0_queueEnd a1 a2 a3 a4 a5 a6 a7 a8 a9 a10 a11 a12 64 0
theorem ld_s_wpX_rowWith {post : Int32 → Prop} {pb : Int32 → Bool} {u : St2} {p0 : Int32} (hp : ∀ y0, ld_Im (pb y0) (post y0)) : ld_Im (ld_wpX_rowWith pb u p0) (wpX_rowWith post u p0) := by
  obtain ⟨f0_learned, f0_rows, f0_endings, f0_queueEnd, a1, a2, a3, a4, a5, a6, a7, a8, a9, a10, a11, a12⟩ := u
  unfold ld_wpX_rowWith wpX_rowWith
  exact ld_iEx 64 (ld_s_wX_rowWith_2 hp)
def ld_wX_closeTable_100 (pb : St2 → Bool) (J2b : Int32 → Int32 → (Nat → Int32) → (Nat → Int32) → (Nat → Int32) → (Nat → Int32) → (Nat → Int32) → (Nat → Int32) → (Nat → Int32) → (Nat → Int32) → (Nat → Int32) → (Nat → Int32) → (Nat → Int32) → (Nat → Int32) → Bool) (J18b : Int32 → Int32 → (Nat → Int32) → (Nat → Int32) → (Nat → Int32) → (Nat → Int32) → (Nat → Int32) → (Nat → Int32) → (Nat → Int32) → (Nat → Int32) → (Nat → Int32) → (Nat → Int32) → (Nat → Int32) → (Nat → Int32) → Bool) (x1 : Int32) (x2 : Int32) (x5 : Int32) (f0_learned : Int32) (f0_rows : Int32) (f0_endings : Int32) (f0_queueEnd : Int32) (a1 : Nat → Int32) (a2 : Nat → Int32) (a3 : Nat → Int32) (a4 : Nat → Int32) (a5 : Nat → Int32) (a6 : Nat → Int32) (a7 : Nat → Int32) (a8 : Nat → Int32) (a9 : Nat → Int32) (a10 : Nat → Int32) (a11 : Nat → Int32) (a12 : Nat → Int32) : Bool := (ld_in ((2 * x1) + x2) 14 && ld_let (upd a6 ((2 * x1) + x2).toNatClampNeg x5) (fun a6_11 : Nat → Int32 => ld_let (x2 + 1) (fun x2_12 : Int32 => J18b x2_12 f0_rows a1 a2 a3 a4 a5 a6_11 a7 a8 a9 a10 a11 a12)))
theorem ld_s_wX_closeTable_100 {post : St2 → Prop} {pb : St2 → Bool} {J2 : Int32 → Int32 → (Nat → Int32) → (Nat → Int32) → (Nat → Int32) → (Nat → Int32) → (Nat → Int32) → (Nat → Int32) → (Nat → Int32) → (Nat → Int32) → (Nat → Int32) → (Nat → Int32) → (Nat → Int32) → (Nat → Int32) → Prop} {J2b : Int32 → Int32 → (Nat → Int32) → (Nat → Int32) → (Nat → Int32) → (Nat → Int32) → (Nat → Int32) → (Nat → Int32) → (Nat → Int32) → (Nat → Int32) → (Nat → Int32) → (Nat → Int32) → (Nat → Int32) → (Nat → Int32) → Bool} {J18 : Int32 → Int32 → (Nat → Int32) → (Nat → Int32) → (Nat → Int32) → (Nat → Int32) → (Nat → Int32) → (Nat → Int32) → (Nat → Int32) → (Nat → Int32) → (Nat → Int32) → (Nat → Int32) → (Nat → Int32) → (Nat → Int32) → Prop} {J18b : Int32 → Int32 → (Nat → Int32) → (Nat → Int32) → (Nat → Int32) → (Nat → Int32) → (Nat → Int32) → (Nat → Int32) → (Nat → Int32) → (Nat → Int32) → (Nat → Int32) → (Nat → Int32) → (Nat → Int32) → (Nat → Int32) → Bool} {x1 : Int32} {x2 : Int32} {x5 : Int32} {f0_learned : Int32} {f0_rows : Int32} {f0_endings : Int32} {f0_queueEnd : Int32} {a1 : Nat → Int32} {a2 : Nat → Int32} {a3 : Nat → Int32} {a4 : Nat → Int32} {a5 : Nat → Int32} {a6 : Nat → Int32} {a7 : Nat → Int32} {a8 : Nat → Int32} {a9 : Nat → Int32} {a10 : Nat → Int32} {a11 : Nat → Int32} {a12 : Nat → Int32} (hp : ∀ y0, ld_Im (pb y0) (post y0)) (hJ2 : ∀ y0 y1 y2 y3 y4 y5 y6 y7 y8 y9 y10 y11 y12 y13, ld_Im (J2b y0 y1 y2 y3 y4 y5 y6 y7 y8 y9 y10 y11 y12 y13) (J2 y0 y1 y2 y3 y4 y5 y6 y7 y8 y9 y10 y11 y12 y13)) (hJ18 : ∀ y0 y1 y2 y3 y4 y5 y6 y7 y8 y9 y10 y11 y12 y13, ld_Im (J18b y0 y1 y2 y3 y4 y5 y6 y7 y8 y9 y10 y11 y12 y13) (J18 y0 y1 y2 y3 y4 y5 y6 y7 y8 y9 y10 y11 y12 y13)) : ld_Im (ld_wX_closeTable_100 pb J2b J18b x1 x2 x5 f0_learned f0_rows f0_endings f0_queueEnd a1 a2 a3 a4 a5 a6 a7 a8 a9 a10 a11 a12) (wX_closeTable_100 post J2 J18 x1 x2 x5 f0_learned f0_rows f0_endings f0_queueEnd a1 a2 a3 a4 a5 a6 a7 a8 a9 a10 a11 a12) := by
  unfold ld_wX_closeTable_100 wX_closeTable_100
  exact ld_iIn (ld_iLet (fun a6_11 => ld_iLet (fun x2_12 => hJ18 _ _ _ _ _ _ _ _ _ _ _ _ _ _)))
def ld_wX_closeTable_18 (pb : St2 → Bool) (J2b : Int32 → Int32 → (Nat → Int32) → (Nat → Int32) → (Nat → Int32) → (Nat → Int32) → (Nat → Int32) → (Nat → Int32) → (Nat → Int32) → (Nat → Int32) → (Nat → Int32) → (Nat → Int32) → (Nat → Int32) → (Nat → Int32) → Bool) (x1 : Int32) (f0_learned : Int32) (f0_endings : Int32) (f0_queueEnd : Int32) : Nat → Int32 → Int32 → (Nat → Int32) → (Nat → Int32) → (Nat → Int32) → (Nat → Int32) → (Nat → Int32) → (Nat → Int32) → (Nat → Int32) → (Nat → Int32) → (Nat → Int32) → (Nat → Int32) → (Nat → Int32) → (Nat → Int32) → Bool
  | 0 => fun _ _ _ _ _ _ _ _ _ _ _ _ _ _ => false
  | n + 1 => fun x2 f0_rows a1 a2 a3 a4 a5 a6 a7 a8 a9 a10 a11 a12 => (if 2 ≤ x2 then ld_let (x1 + 1) (fun x1_4 : Int32 => J2b x1_4 f0_rows a1 a2 a3 a4 a5 a6 a7 a8 a9 a10 a11 a12) else (ld_in x1 7 && ld_let ((2 * (a3 x1.toNatClampNeg)) + x2) (fun x3_6 : Int32 => ld_wpX_answersOf (fun r_7 => ld_wpX_rowWith (fun r_8 => (if 0 ≤ r_8 then ld_wX_closeTable_100 pb J2b (ld_wX_closeTable_18 pb J2b x1 f0_learned f0_endings f0_queueEnd n) x1 x2 r_8 f0_learned f0_rows f0_endings f0_queueEnd a1 a2 a3 a4 a5 a6 a7 a8 a9 a10 a11 a12 else (if 7 ≤ f0_rows then ld_wX_closeTable_100 pb J2b (ld_wX_closeTable_18 pb J2b x1 f0_learned f0_endings f0_queueEnd n) x1 x2 r_8 f0_learned f0_rows f0_endings f0_queueEnd a1 a2 a3 a4 a5 a6 a7 a8 a9 a10 a11 a12 else (ld_in f0_rows 7 && ld_let (upd a3 f0_rows.toNatClampNeg x3_6) (fun a3_15 : Nat → Int32 => (ld_in f0_rows 7 && ld_let (upd a4 f0_rows.toNatClampNeg r_7) (fun a4_17 : Nat → Int32 => ld_let (f0_rows + 1) (fun f_18 : Int32 => ld_wX_closeTable_100 pb J2b (ld_wX_closeTable_18 pb J2b x1 f0_learned f0_endings f0_queueEnd n) x1 x2 f0_rows f0_learned f_18 f0_endings f0_queueEnd a1 a2 a3_15 a4_17 a5 a6 a7 a8 a9 a10 a11 a12)))))))) (f0_learned, f0_rows, f0_endings, f0_queueEnd, a1, a2, a3, a4, a5, a6, a7, a8, a9, a10, a11, a12) r_7) (f0_learned, f0_rows, f0_endings, f0_queueEnd, a1, a2, a3, a4, a5, a6, a7, a8, a9, a10, a11, a12) x3_6)))
theorem ld_s_wX_closeTable_18 {post : St2 → Prop} {pb : St2 → Bool} {J2 : Int32 → Int32 → (Nat → Int32) → (Nat → Int32) → (Nat → Int32) → (Nat → Int32) → (Nat → Int32) → (Nat → Int32) → (Nat → Int32) → (Nat → Int32) → (Nat → Int32) → (Nat → Int32) → (Nat → Int32) → (Nat → Int32) → Prop} {J2b : Int32 → Int32 → (Nat → Int32) → (Nat → Int32) → (Nat → Int32) → (Nat → Int32) → (Nat → Int32) → (Nat → Int32) → (Nat → Int32) → (Nat → Int32) → (Nat → Int32) → (Nat → Int32) → (Nat → Int32) → (Nat → Int32) → Bool} {x1 : Int32} {f0_learned : Int32} {f0_endings : Int32} {f0_queueEnd : Int32} {n : Nat} {x2 : Int32} {f0_rows : Int32} {a1 : (Nat → Int32)} {a2 : (Nat → Int32)} {a3 : (Nat → Int32)} {a4 : (Nat → Int32)} {a5 : (Nat → Int32)} {a6 : (Nat → Int32)} {a7 : (Nat → Int32)} {a8 : (Nat → Int32)} {a9 : (Nat → Int32)} {a10 : (Nat → Int32)} {a11 : (Nat → Int32)} {a12 : (Nat → Int32)} (hp : ∀ y0, ld_Im (pb y0) (post y0)) (hJ2 : ∀ y0 y1 y2 y3 y4 y5 y6 y7 y8 y9 y10 y11 y12 y13, ld_Im (J2b y0 y1 y2 y3 y4 y5 y6 y7 y8 y9 y10 y11 y12 y13) (J2 y0 y1 y2 y3 y4 y5 y6 y7 y8 y9 y10 y11 y12 y13)) : ld_Im (ld_wX_closeTable_18 pb J2b x1 f0_learned f0_endings f0_queueEnd n x2 f0_rows a1 a2 a3 a4 a5 a6 a7 a8 a9 a10 a11 a12) (wX_closeTable_18 post J2 x1 f0_learned f0_endings f0_queueEnd n x2 f0_rows a1 a2 a3 a4 a5 a6 a7 a8 a9 a10 a11 a12) := by
  revert x2 f0_rows a1 a2 a3 a4 a5 a6 a7 a8 a9 a10 a11 a12
  induction n with
  | zero => intro x2 f0_rows a1 a2 a3 a4 a5 a6 a7 a8 a9 a10 a11 a12; exact ld_iF
  | succ n ih =>
    intro x2 f0_rows a1 a2 a3 a4 a5 a6 a7 a8 a9 a10 a11 a12
    exact ld_iIf (ld_iLet (fun x1_4 => hJ2 _ _ _ _ _ _ _ _ _ _ _ _ _ _)) (ld_iIn (ld_iLet (fun x3_6 => ld_s_wpX_answersOf (fun r_7 => ld_s_wpX_rowWith (fun r_8 => ld_iIf (ld_s_wX_closeTable_100 hp hJ2 @ih) (ld_iIf (ld_s_wX_closeTable_100 hp hJ2 @ih) (ld_iIn (ld_iLet (fun a3_15 => ld_iIn (ld_iLet (fun a4_17 => ld_iLet (fun f_18 => ld_s_wX_closeTable_100 hp hJ2 @ih))))))))))))
def ld_wX_closeTable_2 (pb : St2 → Bool) (f0_learned : Int32) (f0_endings : Int32) (f0_queueEnd : Int32) : Nat → Int32 → Int32 → (Nat → Int32) → (Nat → Int32) → (Nat → Int32) → (Nat → Int32) → (Nat → Int32) → (Nat → Int32) → (Nat → Int32) → (Nat → Int32) → (Nat → Int32) → (Nat → Int32) → (Nat → Int32) → (Nat → Int32) → Bool
  | 0 => fun _ _ _ _ _ _ _ _ _ _ _ _ _ _ => false
  | n + 1 => fun x1 f0_rows a1 a2 a3 a4 a5 a6 a7 a8 a9 a10 a11 a12 => (if f0_rows ≤ x1 then pb (f0_learned, f0_rows, f0_endings, f0_queueEnd, a1, a2, a3, a4, a5, a6, a7, a8, a9, a10, a11, a12) else (if 7 ≤ x1 then pb (f0_learned, f0_rows, f0_endings, f0_queueEnd, a1, a2, a3, a4, a5, a6, a7, a8, a9, a10, a11, a12) else ld_wX_closeTable_18 pb (ld_wX_closeTable_2 pb f0_learned f0_endings f0_queueEnd n) x1 f0_learned f0_endings f0_queueEnd 64 0 f0_rows a1 a2 a3 a4 a5 a6 a7 a8 a9 a10 a11 a12))
theorem ld_s_wX_closeTable_2 {post : St2 → Prop} {pb : St2 → Bool} {f0_learned : Int32} {f0_endings : Int32} {f0_queueEnd : Int32} {n : Nat} {x1 : Int32} {f0_rows : Int32} {a1 : (Nat → Int32)} {a2 : (Nat → Int32)} {a3 : (Nat → Int32)} {a4 : (Nat → Int32)} {a5 : (Nat → Int32)} {a6 : (Nat → Int32)} {a7 : (Nat → Int32)} {a8 : (Nat → Int32)} {a9 : (Nat → Int32)} {a10 : (Nat → Int32)} {a11 : (Nat → Int32)} {a12 : (Nat → Int32)} (hp : ∀ y0, ld_Im (pb y0) (post y0)) : ld_Im (ld_wX_closeTable_2 pb f0_learned f0_endings f0_queueEnd n x1 f0_rows a1 a2 a3 a4 a5 a6 a7 a8 a9 a10 a11 a12) (wX_closeTable_2 post f0_learned f0_endings f0_queueEnd n x1 f0_rows a1 a2 a3 a4 a5 a6 a7 a8 a9 a10 a11 a12) := by
  revert x1 f0_rows a1 a2 a3 a4 a5 a6 a7 a8 a9 a10 a11 a12
  induction n with
  | zero => intro x1 f0_rows a1 a2 a3 a4 a5 a6 a7 a8 a9 a10 a11 a12; exact ld_iF
  | succ n ih =>
    intro x1 f0_rows a1 a2 a3 a4 a5 a6 a7 a8 a9 a10 a11 a12
    exact ld_iIf (hp _) (ld_iIf (hp _) (ld_iEx 64 (ld_s_wX_closeTable_18 hp @ih)))
def ld_wpX_closeTable (pb : St2 → Bool) (u : St2) : Bool := match u with
  | (f0_learned, f0_rows, f0_endings, f0_queueEnd, a1, a2, a3, a4, a5, a6, a7, a8, a9, a10, a11, a12) => ld_wX_closeTable_2 pb f0_learned f0_endings f0_queueEnd 64 0 f0_rows a1 a2 a3 a4 a5 a6 a7 a8 a9 a10 a11 a12
theorem ld_s_wpX_closeTable {post : St2 → Prop} {pb : St2 → Bool} {u : St2} (hp : ∀ y0, ld_Im (pb y0) (post y0)) : ld_Im (ld_wpX_closeTable pb u) (wpX_closeTable post u) := by
  obtain ⟨f0_learned, f0_rows, f0_endings, f0_queueEnd, a1, a2, a3, a4, a5, a6, a7, a8, a9, a10, a11, a12⟩ := u
  unfold ld_wpX_closeTable wpX_closeTable
  exact ld_iEx 64 (ld_s_wX_closeTable_2 hp)
def ld_wpX_reachPair (pb : St2 → Bool) (u : St2) (p0 : Int32) (p1 : Int32) (p2 : Int32) : Bool := match u with
  | (f0_learned, f0_rows, f0_endings, f0_queueEnd, a1, a2, a3, a4, a5, a6, a7, a8, a9, a10, a11, a12) => (ld_in ((7 * p0) + p1) 49 && (if (a7 ((7 * p0) + p1).toNatClampNeg) = 0 then (ld_in ((7 * p0) + p1) 49 && ld_let (upd a7 ((7 * p0) + p1).toNatClampNeg 1) (fun a7_4 : Nat → Int32 => (ld_in f0_queueEnd 49 && ld_let (upd a8 f0_queueEnd.toNatClampNeg ((7 * p0) + p1)) (fun a8_6 : Nat → Int32 => (ld_in f0_queueEnd 49 && ld_let (upd a9 f0_queueEnd.toNatClampNeg p2) (fun a9_8 : Nat → Int32 => ld_let (f0_queueEnd + 1) (fun f_9 : Int32 => pb (f0_learned, f0_rows, f0_endings, f_9, a1, a2, a3, a4, a5, a6, a7_4, a8_6, a9_8, a10, a11, a12)))))))) else pb (f0_learned, f0_rows, f0_endings, f0_queueEnd, a1, a2, a3, a4, a5, a6, a7, a8, a9, a10, a11, a12)))
theorem ld_s_wpX_reachPair {post : St2 → Prop} {pb : St2 → Bool} {u : St2} {p0 : Int32} {p1 : Int32} {p2 : Int32} (hp : ∀ y0, ld_Im (pb y0) (post y0)) : ld_Im (ld_wpX_reachPair pb u p0 p1 p2) (wpX_reachPair post u p0 p1 p2) := by
  obtain ⟨f0_learned, f0_rows, f0_endings, f0_queueEnd, a1, a2, a3, a4, a5, a6, a7, a8, a9, a10, a11, a12⟩ := u
  unfold ld_wpX_reachPair wpX_reachPair
  exact ld_iIn (ld_iIf (ld_iIn (ld_iLet (fun a7_4 => ld_iIn (ld_iLet (fun a8_6 => ld_iIn (ld_iLet (fun a9_8 => ld_iLet (fun f_9 => hp _)))))))) (hp _))
def ld_wX_startSearch_2 (pb : St2 → Bool) (x1 : Int32) (x2 : Int32) (f0_learned : Int32) (f0_rows : Int32) (f0_endings : Int32) (f0_queueEnd : Int32) : Nat → Int32 → (Nat → Int32) → (Nat → Int32) → (Nat → Int32) → (Nat → Int32) → (Nat → Int32) → (Nat → Int32) → (Nat → Int32) → (Nat → Int32) → (Nat → Int32) → (Nat → Int32) → (Nat → Int32) → (Nat → Int32) → Bool
  | 0 => fun _ _ _ _ _ _ _ _ _ _ _ _ _ => false
  | n + 1 => fun x3 a1 a2 a3 a4 a5 a6 a7 a8 a9 a10 a11 a12 => (if 49 ≤ x3 then ld_wpX_reachPair (fun u => match u with | (f0_learned_3, f0_rows_4, f0_endings_5, f0_queueEnd_6, am301_9, am302_12, am303_15, am304_18, am305_21, am306_24, am307_27, am308_30, am309_33, am3010_36, am3011_39, am3012_42) => pb (f0_learned_3, f0_rows_4, f0_endings_5, f0_queueEnd_6, am301_9, am302_12, am303_15, am304_18, am305_21, am306_24, am307_27, am308_30, am309_33, am3010_36, am3011_39, am3012_42)) (f0_learned, f0_rows, f0_endings, 0, a1, a2, a3, a4, a5, a6, a7, a8, a9, a10, a11, a12) x1 x2 1 else (ld_in x3 49 && ld_let (upd a7 x3.toNatClampNeg 0) (fun a7_44 : Nat → Int32 => ld_let (x3 + 1) (fun x3_45 : Int32 => ld_wX_startSearch_2 pb x1 x2 f0_learned f0_rows f0_endings f0_queueEnd n x3_45 a1 a2 a3 a4 a5 a6 a7_44 a8 a9 a10 a11 a12))))
theorem ld_s_wX_startSearch_2 {post : St2 → Prop} {pb : St2 → Bool} {x1 : Int32} {x2 : Int32} {f0_learned : Int32} {f0_rows : Int32} {f0_endings : Int32} {f0_queueEnd : Int32} {n : Nat} {x3 : Int32} {a1 : (Nat → Int32)} {a2 : (Nat → Int32)} {a3 : (Nat → Int32)} {a4 : (Nat → Int32)} {a5 : (Nat → Int32)} {a6 : (Nat → Int32)} {a7 : (Nat → Int32)} {a8 : (Nat → Int32)} {a9 : (Nat → Int32)} {a10 : (Nat → Int32)} {a11 : (Nat → Int32)} {a12 : (Nat → Int32)} (hp : ∀ y0, ld_Im (pb y0) (post y0)) : ld_Im (ld_wX_startSearch_2 pb x1 x2 f0_learned f0_rows f0_endings f0_queueEnd n x3 a1 a2 a3 a4 a5 a6 a7 a8 a9 a10 a11 a12) (wX_startSearch_2 post x1 x2 f0_learned f0_rows f0_endings f0_queueEnd n x3 a1 a2 a3 a4 a5 a6 a7 a8 a9 a10 a11 a12) := by
  revert x3 a1 a2 a3 a4 a5 a6 a7 a8 a9 a10 a11 a12
  induction n with
  | zero => intro x3 a1 a2 a3 a4 a5 a6 a7 a8 a9 a10 a11 a12; exact ld_iF
  | succ n ih =>
    intro x3 a1 a2 a3 a4 a5 a6 a7 a8 a9 a10 a11 a12
    exact ld_iIf (ld_s_wpX_reachPair (fun ⟨f0_learned_3, f0_rows_4, f0_endings_5, f0_queueEnd_6, am301_9, am302_12, am303_15, am304_18, am305_21, am306_24, am307_27, am308_30, am309_33, am3010_36, am3011_39, am3012_42⟩ => hp _)) (ld_iIn (ld_iLet (fun a7_44 => ld_iLet (fun x3_45 => ih))))
def ld_wpX_startSearch (pb : St2 → Bool) (u : St2) (p0 : Int32) (p1 : Int32) : Bool := match u with
  | (f0_learned, f0_rows, f0_endings, f0_queueEnd, a1, a2, a3, a4, a5, a6, a7, a8, a9, a10, a11, a12) => ld_wX_startSearch_2 pb p0 p1 f0_learned f0_rows f0_endings f0_queueEnd 64 0 a1 a2 a3 a4 a5 a6 a7 a8 a9 a10 a11 a12
theorem ld_s_wpX_startSearch {post : St2 → Prop} {pb : St2 → Bool} {u : St2} {p0 : Int32} {p1 : Int32} (hp : ∀ y0, ld_Im (pb y0) (post y0)) : ld_Im (ld_wpX_startSearch pb u p0 p1) (wpX_startSearch post u p0 p1) := by
  obtain ⟨f0_learned, f0_rows, f0_endings, f0_queueEnd, a1, a2, a3, a4, a5, a6, a7, a8, a9, a10, a11, a12⟩ := u
  unfold ld_wpX_startSearch wpX_startSearch
  exact ld_iEx 64 (ld_s_wX_startSearch_2 hp)
def ld_wX_findWrong_77 (pb : Int32 → St2 → Bool) (J8b : Int32 → Int32 → Int32 → Int32 → Int32 → (Nat → Int32) → (Nat → Int32) → (Nat → Int32) → (Nat → Int32) → (Nat → Int32) → (Nat → Int32) → (Nat → Int32) → (Nat → Int32) → (Nat → Int32) → (Nat → Int32) → (Nat → Int32) → (Nat → Int32) → Bool) (x1 : Int32) (x2 : Int32) (x3 : Int32) : Nat → Int32 → Int32 → Int32 → Int32 → Int32 → (Nat → Int32) → (Nat → Int32) → (Nat → Int32) → (Nat → Int32) → (Nat → Int32) → (Nat → Int32) → (Nat → Int32) → (Nat → Int32) → (Nat → Int32) → (Nat → Int32) → (Nat → Int32) → (Nat → Int32) → Bool
  | 0 => fun _ _ _ _ _ _ _ _ _ _ _ _ _ _ _ _ _ => false
  | n + 1 => fun x4 f0_learned f0_rows f0_endings f0_queueEnd am31 am32 am33 am34 am35 am36 am37 am38 am39 am310 am311 am312 => (if 2 ≤ x4 then ld_let (x1 + 1) (fun x1_55 : Int32 => J8b x1_55 f0_learned f0_rows f0_endings f0_queueEnd am31 am32 am33 am34 am35 am36 am37 am38 am39 am310 am311 am312) else (ld_in ((2 * x2) + x4) 14 && (ld_in ((2 * x3) + x4) 14 && (ld_in x1 49 && ld_wpX_reachPair (fun u => match u with | (f0_learned_60, f0_rows_61, f0_endings_62, f0_queueEnd_63, am1171_66, am1172_69, am1173_72, am1174_75, am1175_78, am1176_81, am1177_84, am1178_87, am1179_90, am11710_93, am11711_96, am11712_99) => ld_let (x4 + 1) (fun x4_100 : Int32 => ld_wX_findWrong_77 pb J8b x1 x2 x3 n x4_100 f0_learned_60 f0_rows_61 f0_endings_62 f0_queueEnd_63 am1171_66 am1172_69 am1173_72 am1174_75 am1175_78 am1176_81 am1177_84 am1178_87 am1179_90 am11710_93 am11711_96 am11712_99)) (f0_learned, f0_rows, f0_endings, f0_queueEnd, am31, am32, am33, am34, am35, am36, am37, am38, am39, am310, am311, am312) (am36 ((2 * x2) + x4).toNatClampNeg) (am31 ((2 * x3) + x4).toNatClampNeg) ((2 * (am39 x1.toNatClampNeg)) + x4)))))
theorem ld_s_wX_findWrong_77 {post : Int32 → St2 → Prop} {pb : Int32 → St2 → Bool} {J8 : Int32 → Int32 → Int32 → Int32 → Int32 → (Nat → Int32) → (Nat → Int32) → (Nat → Int32) → (Nat → Int32) → (Nat → Int32) → (Nat → Int32) → (Nat → Int32) → (Nat → Int32) → (Nat → Int32) → (Nat → Int32) → (Nat → Int32) → (Nat → Int32) → Prop} {J8b : Int32 → Int32 → Int32 → Int32 → Int32 → (Nat → Int32) → (Nat → Int32) → (Nat → Int32) → (Nat → Int32) → (Nat → Int32) → (Nat → Int32) → (Nat → Int32) → (Nat → Int32) → (Nat → Int32) → (Nat → Int32) → (Nat → Int32) → (Nat → Int32) → Bool} {x1 : Int32} {x2 : Int32} {x3 : Int32} {n : Nat} {x4 : Int32} {f0_learned : Int32} {f0_rows : Int32} {f0_endings : Int32} {f0_queueEnd : Int32} {am31 : (Nat → Int32)} {am32 : (Nat → Int32)} {am33 : (Nat → Int32)} {am34 : (Nat → Int32)} {am35 : (Nat → Int32)} {am36 : (Nat → Int32)} {am37 : (Nat → Int32)} {am38 : (Nat → Int32)} {am39 : (Nat → Int32)} {am310 : (Nat → Int32)} {am311 : (Nat → Int32)} {am312 : (Nat → Int32)} (hp : ∀ y0 y1, ld_Im (pb y0 y1) (post y0 y1)) (hJ8 : ∀ y0 y1 y2 y3 y4 y5 y6 y7 y8 y9 y10 y11 y12 y13 y14 y15 y16, ld_Im (J8b y0 y1 y2 y3 y4 y5 y6 y7 y8 y9 y10 y11 y12 y13 y14 y15 y16) (J8 y0 y1 y2 y3 y4 y5 y6 y7 y8 y9 y10 y11 y12 y13 y14 y15 y16)) : ld_Im (ld_wX_findWrong_77 pb J8b x1 x2 x3 n x4 f0_learned f0_rows f0_endings f0_queueEnd am31 am32 am33 am34 am35 am36 am37 am38 am39 am310 am311 am312) (wX_findWrong_77 post J8 x1 x2 x3 n x4 f0_learned f0_rows f0_endings f0_queueEnd am31 am32 am33 am34 am35 am36 am37 am38 am39 am310 am311 am312) := by
  revert x4 f0_learned f0_rows f0_endings f0_queueEnd am31 am32 am33 am34 am35 am36 am37 am38 am39 am310 am311 am312
  induction n with
  | zero => intro x4 f0_learned f0_rows f0_endings f0_queueEnd am31 am32 am33 am34 am35 am36 am37 am38 am39 am310 am311 am312; exact ld_iF
  | succ n ih =>
    intro x4 f0_learned f0_rows f0_endings f0_queueEnd am31 am32 am33 am34 am35 am36 am37 am38 am39 am310 am311 am312
    exact ld_iIf (ld_iLet (fun x1_55 => hJ8 _ _ _ _ _ _ _ _ _ _ _ _ _ _ _ _ _)) (ld_iIn (ld_iIn (ld_iIn (ld_s_wpX_reachPair (fun ⟨f0_learned_60, f0_rows_61, f0_endings_62, f0_queueEnd_63, am1171_66, am1172_69, am1173_72, am1174_75, am1175_78, am1176_81, am1177_84, am1178_87, am1179_90, am11710_93, am11711_96, am11712_99⟩ => ld_iLet (fun x4_100 => ih))))))
def ld_wX_findWrong_58 (pb : Int32 → St2 → Bool) (J8b : Int32 → Int32 → Int32 → Int32 → Int32 → (Nat → Int32) → (Nat → Int32) → (Nat → Int32) → (Nat → Int32) → (Nat → Int32) → (Nat → Int32) → (Nat → Int32) → (Nat → Int32) → (Nat → Int32) → (Nat → Int32) → (Nat → Int32) → (Nat → Int32) → Bool) (x1 : Int32) (x2 : Int32) (x3 : Int32) (z0 : Int32) (f0_learned : Int32) (f0_rows : Int32) (f0_endings : Int32) (f0_queueEnd : Int32) (am31 : Nat → Int32) (am32 : Nat → Int32) (am33 : Nat → Int32) (am34 : Nat → Int32) (am35 : Nat → Int32) (am36 : Nat → Int32) (am37 : Nat → Int32) (am38 : Nat → Int32) (am39 : Nat → Int32) (am310 : Nat → Int32) (am311 : Nat → Int32) (am312 : Nat → Int32) : Bool := (ld_in x3 7 && (if z0 = (am32 x3.toNatClampNeg) then ld_wX_findWrong_77 pb J8b x1 x2 x3 64 0 f0_learned f0_rows f0_endings f0_queueEnd am31 am32 am33 am34 am35 am36 am37 am38 am39 am310 am311 am312 else (ld_in x1 49 && pb (am39 x1.toNatClampNeg) (f0_learned, f0_rows, f0_endings, f0_queueEnd, am31, am32, am33, am34, am35, am36, am37, am38, am39, am310, am311, am312))))
theorem ld_s_wX_findWrong_58 {post : Int32 → St2 → Prop} {pb : Int32 → St2 → Bool} {J8 : Int32 → Int32 → Int32 → Int32 → Int32 → (Nat → Int32) → (Nat → Int32) → (Nat → Int32) → (Nat → Int32) → (Nat → Int32) → (Nat → Int32) → (Nat → Int32) → (Nat → Int32) → (Nat → Int32) → (Nat → Int32) → (Nat → Int32) → (Nat → Int32) → Prop} {J8b : Int32 → Int32 → Int32 → Int32 → Int32 → (Nat → Int32) → (Nat → Int32) → (Nat → Int32) → (Nat → Int32) → (Nat → Int32) → (Nat → Int32) → (Nat → Int32) → (Nat → Int32) → (Nat → Int32) → (Nat → Int32) → (Nat → Int32) → (Nat → Int32) → Bool} {x1 : Int32} {x2 : Int32} {x3 : Int32} {z0 : Int32} {f0_learned : Int32} {f0_rows : Int32} {f0_endings : Int32} {f0_queueEnd : Int32} {am31 : Nat → Int32} {am32 : Nat → Int32} {am33 : Nat → Int32} {am34 : Nat → Int32} {am35 : Nat → Int32} {am36 : Nat → Int32} {am37 : Nat → Int32} {am38 : Nat → Int32} {am39 : Nat → Int32} {am310 : Nat → Int32} {am311 : Nat → Int32} {am312 : Nat → Int32} (hp : ∀ y0 y1, ld_Im (pb y0 y1) (post y0 y1)) (hJ8 : ∀ y0 y1 y2 y3 y4 y5 y6 y7 y8 y9 y10 y11 y12 y13 y14 y15 y16, ld_Im (J8b y0 y1 y2 y3 y4 y5 y6 y7 y8 y9 y10 y11 y12 y13 y14 y15 y16) (J8 y0 y1 y2 y3 y4 y5 y6 y7 y8 y9 y10 y11 y12 y13 y14 y15 y16)) : ld_Im (ld_wX_findWrong_58 pb J8b x1 x2 x3 z0 f0_learned f0_rows f0_endings f0_queueEnd am31 am32 am33 am34 am35 am36 am37 am38 am39 am310 am311 am312) (wX_findWrong_58 post J8 x1 x2 x3 z0 f0_learned f0_rows f0_endings f0_queueEnd am31 am32 am33 am34 am35 am36 am37 am38 am39 am310 am311 am312) := by
  unfold ld_wX_findWrong_58 wX_findWrong_58
  exact ld_iIn (ld_iIf (ld_iEx 64 (ld_s_wX_findWrong_77 hp hJ8)) (ld_iIn (hp _ _)))
def ld_wX_findWrong_8 (pb : Int32 → St2 → Bool) : Nat → Int32 → Int32 → Int32 → Int32 → Int32 → (Nat → Int32) → (Nat → Int32) → (Nat → Int32) → (Nat → Int32) → (Nat → Int32) → (Nat → Int32) → (Nat → Int32) → (Nat → Int32) → (Nat → Int32) → (Nat → Int32) → (Nat → Int32) → (Nat → Int32) → Bool
  | 0 => fun _ _ _ _ _ _ _ _ _ _ _ _ _ _ _ _ _ => false
  | n + 1 => fun x1 f0_learned f0_rows f0_endings f0_queueEnd am31 am32 am33 am34 am35 am36 am37 am38 am39 am310 am311 am312 => (if f0_queueEnd ≤ x1 then pb 0 (f0_learned, f0_rows, f0_endings, f0_queueEnd, am31, am32, am33, am34, am35, am36, am37, am38, am39, am310, am311, am312) else (if 49 ≤ x1 then pb 0 (f0_learned, f0_rows, f0_endings, f0_queueEnd, am31, am32, am33, am34, am35, am36, am37, am38, am39, am310, am311, am312) else (ld_in x1 49 && (decide (¬ (7 : Int32) = 0) && ld_let ((am38 x1.toNatClampNeg) / 7) (fun x2_46 : Int32 => (ld_in x1 49 && (decide (¬ (7 : Int32) = 0) && ld_let ((am38 x1.toNatClampNeg) - (am38 x1.toNatClampNeg) / 7 * 7) (fun x3_49 : Int32 => (ld_in x2_46 7 && (if ((am34 x2_46.toNatClampNeg) &&& 1) = 0 then ld_wX_findWrong_58 pb (ld_wX_findWrong_8 pb n) x1 x2_46 x3_49 0 f0_learned f0_rows f0_endings f0_queueEnd am31 am32 am33 am34 am35 am36 am37 am38 am39 am310 am311 am312 else ld_wX_findWrong_58 pb (ld_wX_findWrong_8 pb n) x1 x2_46 x3_49 1 f0_learned f0_rows f0_endings f0_queueEnd am31 am32 am33 am34 am35 am36 am37 am38 am39 am310 am311 am312))))))))))
theorem ld_s_wX_findWrong_8 {post : Int32 → St2 → Prop} {pb : Int32 → St2 → Bool}  {n : Nat} {x1 : Int32} {f0_learned : Int32} {f0_rows : Int32} {f0_endings : Int32} {f0_queueEnd : Int32} {am31 : (Nat → Int32)} {am32 : (Nat → Int32)} {am33 : (Nat → Int32)} {am34 : (Nat → Int32)} {am35 : (Nat → Int32)} {am36 : (Nat → Int32)} {am37 : (Nat → Int32)} {am38 : (Nat → Int32)} {am39 : (Nat → Int32)} {am310 : (Nat → Int32)} {am311 : (Nat → Int32)} {am312 : (Nat → Int32)} (hp : ∀ y0 y1, ld_Im (pb y0 y1) (post y0 y1)) : ld_Im (ld_wX_findWrong_8 pb n x1 f0_learned f0_rows f0_endings f0_queueEnd am31 am32 am33 am34 am35 am36 am37 am38 am39 am310 am311 am312) (wX_findWrong_8 post n x1 f0_learned f0_rows f0_endings f0_queueEnd am31 am32 am33 am34 am35 am36 am37 am38 am39 am310 am311 am312) := by
  revert x1 f0_learned f0_rows f0_endings f0_queueEnd am31 am32 am33 am34 am35 am36 am37 am38 am39 am310 am311 am312
  induction n with
  | zero => intro x1 f0_learned f0_rows f0_endings f0_queueEnd am31 am32 am33 am34 am35 am36 am37 am38 am39 am310 am311 am312; exact ld_iF
  | succ n ih =>
    intro x1 f0_learned f0_rows f0_endings f0_queueEnd am31 am32 am33 am34 am35 am36 am37 am38 am39 am310 am311 am312
    exact ld_iIf (hp _ _) (ld_iIf (hp _ _) (ld_iIn (ld_iDec (ld_iLet (fun x2_46 => ld_iIn (ld_iDec (ld_iLet (fun x3_49 => ld_iIn (ld_iIf (ld_s_wX_findWrong_58 hp @ih) (ld_s_wX_findWrong_58 hp @ih))))))))))
def ld_wpX_findWrong (pb : Int32 → St2 → Bool) (u : St2) : Bool := match u with
  | (f0_learned, f0_rows, f0_endings, f0_queueEnd, a1, a2, a3, a4, a5, a6, a7, a8, a9, a10, a11, a12) => ld_wpX_startSearch (fun u => match u with | (f0_learned_2, f0_rows_3, f0_endings_4, f0_queueEnd_5, am31_8, am32_11, am33_14, am34_17, am35_20, am36_23, am37_26, am38_29, am39_32, am310_35, am311_38, am312_41) => ld_wX_findWrong_8 pb 64 0 f0_learned_2 f0_rows_3 f0_endings_4 f0_queueEnd_5 am31_8 am32_11 am33_14 am34_17 am35_20 am36_23 am37_26 am38_29 am39_32 am310_35 am311_38 am312_41) (f0_learned, f0_rows, f0_endings, f0_queueEnd, a1, a2, a3, a4, a5, a6, a7, a8, a9, a10, a11, a12) 0 0
theorem ld_s_wpX_findWrong {post : Int32 → St2 → Prop} {pb : Int32 → St2 → Bool} {u : St2} (hp : ∀ y0 y1, ld_Im (pb y0 y1) (post y0 y1)) : ld_Im (ld_wpX_findWrong pb u) (wpX_findWrong post u) := by
  obtain ⟨f0_learned, f0_rows, f0_endings, f0_queueEnd, a1, a2, a3, a4, a5, a6, a7, a8, a9, a10, a11, a12⟩ := u
  unfold ld_wpX_findWrong wpX_findWrong
  exact ld_s_wpX_startSearch (fun ⟨f0_learned_2, f0_rows_3, f0_endings_4, f0_queueEnd_5, am31_8, am32_11, am33_14, am34_17, am35_20, am36_23, am37_26, am38_29, am39_32, am310_35, am311_38, am312_41⟩ => ld_iEx 64 (ld_s_wX_findWrong_8 hp))
def ld_wX_rowAfter_14 (pb : Int32 → Bool) (x1 : Int32) (x2 : Int32) (x4 : Int32) (f0_learned : Int32) (f0_rows : Int32) (f0_endings : Int32) (f0_queueEnd : Int32) (a1 : Nat → Int32) (a2 : Nat → Int32) (a3 : Nat → Int32) (a4 : Nat → Int32) (a5 : Nat → Int32) (a6 : Nat → Int32) (a7 : Nat → Int32) (a8 : Nat → Int32) (a9 : Nat → Int32) (a10 : Nat → Int32) (a11 : Nat → Int32) (a12 : Nat → Int32) : Nat → Int32 → Int32 → Bool
  | 0 => fun _ _ => false
  | n + 1 => fun x3 x5 => (if x5 < (x4 - x2) then pb x3 else (ld_in ((2 * x3) + (((x1.toUInt32 >>> (x5.toUInt32 &&& Int32.toUInt32 31)).toInt32) &&& 1)) 14 && ld_let (a6 ((2 * x3) + (((x1.toUInt32 >>> (x5.toUInt32 &&& Int32.toUInt32 31)).toInt32) &&& 1)).toNatClampNeg) (fun x3_5 : Int32 => ld_let (x5 + (-1)) (fun x5_6 : Int32 => ld_wX_rowAfter_14 pb x1 x2 x4 f0_learned f0_rows f0_endings f0_queueEnd a1 a2 a3 a4 a5 a6 a7 a8 a9 a10 a11 a12 n x3_5 x5_6))))
theorem ld_s_wX_rowAfter_14 {post : Int32 → Prop} {pb : Int32 → Bool} {x1 : Int32} {x2 : Int32} {x4 : Int32} {f0_learned : Int32} {f0_rows : Int32} {f0_endings : Int32} {f0_queueEnd : Int32} {a1 : Nat → Int32} {a2 : Nat → Int32} {a3 : Nat → Int32} {a4 : Nat → Int32} {a5 : Nat → Int32} {a6 : Nat → Int32} {a7 : Nat → Int32} {a8 : Nat → Int32} {a9 : Nat → Int32} {a10 : Nat → Int32} {a11 : Nat → Int32} {a12 : Nat → Int32} {n : Nat} {x3 : Int32} {x5 : Int32} (hp : ∀ y0, ld_Im (pb y0) (post y0)) : ld_Im (ld_wX_rowAfter_14 pb x1 x2 x4 f0_learned f0_rows f0_endings f0_queueEnd a1 a2 a3 a4 a5 a6 a7 a8 a9 a10 a11 a12 n x3 x5) (wX_rowAfter_14 post x1 x2 x4 f0_learned f0_rows f0_endings f0_queueEnd a1 a2 a3 a4 a5 a6 a7 a8 a9 a10 a11 a12 n x3 x5) := by
  revert x3 x5
  induction n with
  | zero => intro x3 x5; exact ld_iF
  | succ n ih =>
    intro x3 x5
    exact ld_iIf (hp _) (ld_iIn (ld_iLet (fun x3_5 => ld_iLet (fun x5_6 => ih))))
def ld_wpX_rowAfter (pb : Int32 → Bool) (u : St2) (p0 : Int32) (p1 : Int32) : Bool := match u with
  | (f0_learned, f0_rows, f0_endings, f0_queueEnd, a1, a2, a3, a4, a5, a6, a7, a8, a9, a10, a11, a12) => ld_wpX_lengthOf (fun r_1 => ld_let (r_1 - 1) (fun x5_2 : Int32 => ld_wX_rowAfter_14 pb p0 p1 r_1 f0_learned f0_rows f0_endings f0_queueEnd a1 a2 a3 a4 a5 a6 a7 a8 a9 a10 a11 a12 64 0 x5_2)) () p0
theorem ld_s_wpX_rowAfter {post : Int32 → Prop} {pb : Int32 → Bool} {u : St2} {p0 : Int32} {p1 : Int32} (hp : ∀ y0, ld_Im (pb y0) (post y0)) : ld_Im (ld_wpX_rowAfter pb u p0 p1) (wpX_rowAfter post u p0 p1) := by
  obtain ⟨f0_learned, f0_rows, f0_endings, f0_queueEnd, a1, a2, a3, a4, a5, a6, a7, a8, a9, a10, a11, a12⟩ := u
  unfold ld_wpX_rowAfter wpX_rowAfter
  exact ld_s_wpX_lengthOf (fun r_1 => ld_iLet (fun x5_2 => ld_iEx 64 (ld_s_wX_rowAfter_14 hp)))
def ld_wpX_withoutFirst (pb : Int32 → Bool) (u : St0) (p0 : Int32) (p1 : Int32) : Bool := ld_wpX_lengthOf (fun r_1 => ld_let (r_1 - p1) (fun x2_2 : Int32 => pb (((1 : Int32) <<< (x2_2 &&& 31)) ||| (p0 &&& (((1 : Int32) <<< (x2_2 &&& 31)) - 1))))) () p0
theorem ld_s_wpX_withoutFirst {post : Int32 → Prop} {pb : Int32 → Bool} {u : St0} {p0 : Int32} {p1 : Int32} (hp : ∀ y0, ld_Im (pb y0) (post y0)) : ld_Im (ld_wpX_withoutFirst pb u p0 p1) (wpX_withoutFirst post u p0 p1) := by
  unfold ld_wpX_withoutFirst wpX_withoutFirst
  exact ld_s_wpX_lengthOf (fun r_1 => ld_iLet (fun x2_2 => hp _))
def ld_wX_addEnding_14 (pb : St2 → Bool) (x1 : Int32) (x2 : Int32) (x3 : Int32) (f0_learned : Int32) (f0_rows : Int32) (f0_endings : Int32) (f0_queueEnd : Int32) (a1 : Nat → Int32) (a2 : Nat → Int32) (a3 : Nat → Int32) (a4 : Nat → Int32) (a5 : Nat → Int32) (a6 : Nat → Int32) (a7 : Nat → Int32) (a8 : Nat → Int32) (a9 : Nat → Int32) (a10 : Nat → Int32) (a11 : Nat → Int32) (a12 : Nat → Int32) : Nat → Int32 → Bool
  | 0 => fun _ => false
  | n + 1 => fun x4 => (if x2 < x4 then pb (f0_learned, f0_rows, f0_endings, f0_queueEnd, a1, a2, a3, a4, a5, a6, a7, a8, a9, a10, a11, a12) else ld_wpX_rowAfter (fun r_4 => ld_wpX_withoutFirst (fun r_5 => (ld_in r_4 7 && ld_wpX_join (fun r_7 => ld_wpX_isGoodWord (fun r_8 => (if r_8 = x3 then ld_let (x4 + 1) (fun x4_10 : Int32 => ld_wX_addEnding_14 pb x1 x2 x3 f0_learned f0_rows f0_endings f0_queueEnd a1 a2 a3 a4 a5 a6 a7 a8 a9 a10 a11 a12 n x4_10) else (ld_in f0_endings 10 && ld_let (upd a5 f0_endings.toNatClampNeg r_5) (fun a5_12 : Nat → Int32 => ld_let (f0_endings + 1) (fun f_13 : Int32 => pb (f0_learned, f0_rows, f_13, f0_queueEnd, a1, a2, a3, a4, a5_12, a6, a7, a8, a9, a10, a11, a12)))))) (f0_learned, f0_rows, f0_endings, f0_queueEnd, a1, a2, a3, a4, a5, a6, a7, a8, a9, a10, a11, a12) r_7) () (a3 r_4.toNatClampNeg) r_5)) () x1 x4) (f0_learned, f0_rows, f0_endings, f0_queueEnd, a1, a2, a3, a4, a5, a6, a7, a8, a9, a10, a11, a12) x1 x4)
theorem ld_s_wX_addEnding_14 {post : St2 → Prop} {pb : St2 → Bool} {x1 : Int32} {x2 : Int32} {x3 : Int32} {f0_learned : Int32} {f0_rows : Int32} {f0_endings : Int32} {f0_queueEnd : Int32} {a1 : Nat → Int32} {a2 : Nat → Int32} {a3 : Nat → Int32} {a4 : Nat → Int32} {a5 : Nat → Int32} {a6 : Nat → Int32} {a7 : Nat → Int32} {a8 : Nat → Int32} {a9 : Nat → Int32} {a10 : Nat → Int32} {a11 : Nat → Int32} {a12 : Nat → Int32} {n : Nat} {x4 : Int32} (hp : ∀ y0, ld_Im (pb y0) (post y0)) : ld_Im (ld_wX_addEnding_14 pb x1 x2 x3 f0_learned f0_rows f0_endings f0_queueEnd a1 a2 a3 a4 a5 a6 a7 a8 a9 a10 a11 a12 n x4) (wX_addEnding_14 post x1 x2 x3 f0_learned f0_rows f0_endings f0_queueEnd a1 a2 a3 a4 a5 a6 a7 a8 a9 a10 a11 a12 n x4) := by
  revert x4
  induction n with
  | zero => intro x4; exact ld_iF
  | succ n ih =>
    intro x4
    exact ld_iIf (hp _) (ld_s_wpX_rowAfter (fun r_4 => ld_s_wpX_withoutFirst (fun r_5 => ld_iIn (ld_s_wpX_join (fun r_7 => ld_s_wpX_isGoodWord (fun r_8 => ld_iIf (ld_iLet (fun x4_10 => ih)) (ld_iIn (ld_iLet (fun a5_12 => ld_iLet (fun f_13 => hp _))))))))))
def ld_wpX_addEnding (pb : St2 → Bool) (u : St2) (p0 : Int32) : Bool := match u with
  | (f0_learned, f0_rows, f0_endings, f0_queueEnd, a1, a2, a3, a4, a5, a6, a7, a8, a9, a10, a11, a12) => ld_wpX_lengthOf (fun r_1 => ld_wpX_isGoodWord (fun r_2 => ld_wX_addEnding_14 pb p0 r_1 r_2 f0_learned f0_rows f0_endings f0_queueEnd a1 a2 a3 a4 a5 a6 a7 a8 a9 a10 a11 a12 64 1) (f0_learned, f0_rows, f0_endings, f0_queueEnd, a1, a2, a3, a4, a5, a6, a7, a8, a9, a10, a11, a12) p0) () p0
theorem ld_s_wpX_addEnding {post : St2 → Prop} {pb : St2 → Bool} {u : St2} {p0 : Int32} (hp : ∀ y0, ld_Im (pb y0) (post y0)) : ld_Im (ld_wpX_addEnding pb u p0) (wpX_addEnding post u p0) := by
  obtain ⟨f0_learned, f0_rows, f0_endings, f0_queueEnd, a1, a2, a3, a4, a5, a6, a7, a8, a9, a10, a11, a12⟩ := u
  unfold ld_wpX_addEnding wpX_addEnding
  exact ld_s_wpX_lengthOf (fun r_1 => ld_s_wpX_isGoodWord (fun r_2 => ld_iEx 64 (ld_s_wX_addEnding_14 hp)))
def ld_wX_learn_89 (pb : St2 → Bool) (f0_learned : Int32) (f0_rows : Int32) (f0_endings : Int32) (f0_queueEnd : Int32) (a1 : Nat → Int32) (a2 : Nat → Int32) (a3 : Nat → Int32) (a4 : Nat → Int32) (a5 : Nat → Int32) (a6 : Nat → Int32) (a7 : Nat → Int32) (a8 : Nat → Int32) (a9 : Nat → Int32) (a10 : Nat → Int32) (a11 : Nat → Int32) (a12 : Nat → Int32) : Bool := ld_wpX_orderKinds (fun u => match u with | (f0_learned_8, f0_rows_9, f0_endings_10, f0_queueEnd_11, am901_14, am902_17, am903_20, am904_23, am905_26, am906_29, am907_32, am908_35, am909_38, am9010_41, am9011_44, am9012_47) => pb (f0_learned_8, f0_rows_9, f0_endings_10, f0_queueEnd_11, am901_14, am902_17, am903_20, am904_23, am905_26, am906_29, am907_32, am908_35, am909_38, am9010_41, am9011_44, am9012_47)) (f0_learned, f0_rows, f0_endings, f0_queueEnd, a1, a2, a3, a4, a5, a6, a7, a8, a9, a10, a11, a12)
theorem ld_s_wX_learn_89 {post : St2 → Prop} {pb : St2 → Bool} {f0_learned : Int32} {f0_rows : Int32} {f0_endings : Int32} {f0_queueEnd : Int32} {a1 : Nat → Int32} {a2 : Nat → Int32} {a3 : Nat → Int32} {a4 : Nat → Int32} {a5 : Nat → Int32} {a6 : Nat → Int32} {a7 : Nat → Int32} {a8 : Nat → Int32} {a9 : Nat → Int32} {a10 : Nat → Int32} {a11 : Nat → Int32} {a12 : Nat → Int32} (hp : ∀ y0, ld_Im (pb y0) (post y0)) : ld_Im (ld_wX_learn_89 pb f0_learned f0_rows f0_endings f0_queueEnd a1 a2 a3 a4 a5 a6 a7 a8 a9 a10 a11 a12) (wX_learn_89 post f0_learned f0_rows f0_endings f0_queueEnd a1 a2 a3 a4 a5 a6 a7 a8 a9 a10 a11 a12) := by
  unfold ld_wX_learn_89 wX_learn_89
  exact ld_s_wpX_orderKinds (fun ⟨f0_learned_8, f0_rows_9, f0_endings_10, f0_queueEnd_11, am901_14, am902_17, am903_20, am904_23, am905_26, am906_29, am907_32, am908_35, am909_38, am9010_41, am9011_44, am9012_47⟩ => hp _)
def ld_wX_learn_73 (pb : St2 → Bool) (J41b : Int32 → Int32 → Int32 → Int32 → Int32 → Int32 → (Nat → Int32) → (Nat → Int32) → (Nat → Int32) → (Nat → Int32) → (Nat → Int32) → (Nat → Int32) → (Nat → Int32) → (Nat → Int32) → (Nat → Int32) → (Nat → Int32) → (Nat → Int32) → (Nat → Int32) → Bool) (x2 : Int32) (x3 : Int32) (z0 : Int32) (f0_learned : Int32) (f0_rows : Int32) (f0_endings : Int32) (f0_queueEnd : Int32) (am601 : Nat → Int32) (am602 : Nat → Int32) (am603 : Nat → Int32) (am604 : Nat → Int32) (am605 : Nat → Int32) (am606 : Nat → Int32) (am607 : Nat → Int32) (am608 : Nat → Int32) (am609 : Nat → Int32) (am6010 : Nat → Int32) (am6011 : Nat → Int32) (am6012 : Nat → Int32) : Bool := (if z0 = 0 then ld_let (x2 + 1) (fun x2_174 : Int32 => J41b z0 x2_174 f0_learned f0_rows f0_endings f0_queueEnd am601 am602 am603 am604 am605 am606 am607 am608 am609 am6010 am6011 am6012) else ld_wpX_addEnding (fun u => match u with | (f0_learned_176, f0_rows_177, f0_endings_178, f0_queueEnd_179, am801_182, am802_185, am803_188, am804_191, am805_194, am806_197, am807_200, am808_203, am809_206, am8010_209, am8011_212, am8012_215) => ld_let (x2 + 1) (fun x2_216 : Int32 => J41b z0 x2_216 f0_learned_176 f0_rows_177 f0_endings_178 f0_queueEnd_179 am801_182 am802_185 am803_188 am804_191 am805_194 am806_197 am807_200 am808_203 am809_206 am8010_209 am8011_212 am8012_215)) (f0_learned, f0_rows, f0_endings, f0_queueEnd, am601, am602, am603, am604, am605, am606, am607, am608, am609, am6010, am6011, am6012) x3)
theorem ld_s_wX_learn_73 {post : St2 → Prop} {pb : St2 → Bool} {J41 : Int32 → Int32 → Int32 → Int32 → Int32 → Int32 → (Nat → Int32) → (Nat → Int32) → (Nat → Int32) → (Nat → Int32) → (Nat → Int32) → (Nat → Int32) → (Nat → Int32) → (Nat → Int32) → (Nat → Int32) → (Nat → Int32) → (Nat → Int32) → (Nat → Int32) → Prop} {J41b : Int32 → Int32 → Int32 → Int32 → Int32 → Int32 → (Nat → Int32) → (Nat → Int32) → (Nat → Int32) → (Nat → Int32) → (Nat → Int32) → (Nat → Int32) → (Nat → Int32) → (Nat → Int32) → (Nat → Int32) → (Nat → Int32) → (Nat → Int32) → (Nat → Int32) → Bool} {x2 : Int32} {x3 : Int32} {z0 : Int32} {f0_learned : Int32} {f0_rows : Int32} {f0_endings : Int32} {f0_queueEnd : Int32} {am601 : Nat → Int32} {am602 : Nat → Int32} {am603 : Nat → Int32} {am604 : Nat → Int32} {am605 : Nat → Int32} {am606 : Nat → Int32} {am607 : Nat → Int32} {am608 : Nat → Int32} {am609 : Nat → Int32} {am6010 : Nat → Int32} {am6011 : Nat → Int32} {am6012 : Nat → Int32} (hp : ∀ y0, ld_Im (pb y0) (post y0)) (hJ41 : ∀ y0 y1 y2 y3 y4 y5 y6 y7 y8 y9 y10 y11 y12 y13 y14 y15 y16 y17, ld_Im (J41b y0 y1 y2 y3 y4 y5 y6 y7 y8 y9 y10 y11 y12 y13 y14 y15 y16 y17) (J41 y0 y1 y2 y3 y4 y5 y6 y7 y8 y9 y10 y11 y12 y13 y14 y15 y16 y17)) : ld_Im (ld_wX_learn_73 pb J41b x2 x3 z0 f0_learned f0_rows f0_endings f0_queueEnd am601 am602 am603 am604 am605 am606 am607 am608 am609 am6010 am6011 am6012) (wX_learn_73 post J41 x2 x3 z0 f0_learned f0_rows f0_endings f0_queueEnd am601 am602 am603 am604 am605 am606 am607 am608 am609 am6010 am6011 am6012) := by
  unfold ld_wX_learn_73 wX_learn_73
  exact ld_iIf (ld_iLet (fun x2_174 => hJ41 _ _ _ _ _ _ _ _ _ _ _ _ _ _ _ _ _ _)) (ld_s_wpX_addEnding (fun ⟨f0_learned_176, f0_rows_177, f0_endings_178, f0_queueEnd_179, am801_182, am802_185, am803_188, am804_191, am805_194, am806_197, am807_200, am808_203, am809_206, am8010_209, am8011_212, am8012_215⟩ => ld_iLet (fun x2_216 => hJ41 _ _ _ _ _ _ _ _ _ _ _ _ _ _ _ _ _ _)))
def ld_wX_learn_41 (pb : St2 → Bool) : Nat → Int32 → Int32 → Int32 → Int32 → Int32 → Int32 → (Nat → Int32) → (Nat → Int32) → (Nat → Int32) → (Nat → Int32) → (Nat → Int32) → (Nat → Int32) → (Nat → Int32) → (Nat → Int32) → (Nat → Int32) → (Nat → Int32) → (Nat → Int32) → (Nat → Int32) → Bool
  | 0 => fun _ _ _ _ _ _ _ _ _ _ _ _ _ _ _ _ _ _ => false
  | n + 1 => fun x1 x2 f0_learned f0_rows f0_endings f0_queueEnd a1 a2 a3 a4 a5 a6 a7 a8 a9 a10 a11 a12 => (if 9 ≤ x2 then ld_wX_learn_89 pb f0_learned f0_rows f0_endings f0_queueEnd a1 a2 a3 a4 a5 a6 a7 a8 a9 a10 a11 a12 else (if x1 = 0 then ld_wX_learn_89 pb f0_learned f0_rows f0_endings f0_queueEnd a1 a2 a3 a4 a5 a6 a7 a8 a9 a10 a11 a12 else ld_wpX_fillRows (fun u => match u with | (f0_learned_50, f0_rows_51, f0_endings_52, f0_queueEnd_53, am521_56, am522_59, am523_62, am524_65, am525_68, am526_71, am527_74, am528_77, am529_80, am5210_83, am5211_86, am5212_89) => ld_wpX_closeTable (fun u => match u with | (f0_learned_91, f0_rows_92, f0_endings_93, f0_queueEnd_94, am561_97, am562_100, am563_103, am564_106, am565_109, am566_112, am567_115, am568_118, am569_121, am5610_124, am5611_127, am5612_130) => ld_wpX_findWrong (fun r_131 u => match u with | (f0_learned_132, f0_rows_133, f0_endings_134, f0_queueEnd_135, am601_138, am602_141, am603_144, am604_147, am605_150, am606_153, am607_156, am608_159, am609_162, am6010_165, am6011_168, am6012_171) => (if r_131 ≤ 0 then ld_wX_learn_73 pb (ld_wX_learn_41 pb n) x2 r_131 0 f0_learned_132 f0_rows_133 f0_endings_134 f0_queueEnd_135 am601_138 am602_141 am603_144 am604_147 am605_150 am606_153 am607_156 am608_159 am609_162 am6010_165 am6011_168 am6012_171 else ld_wX_learn_73 pb (ld_wX_learn_41 pb n) x2 r_131 1 f0_learned_132 f0_rows_133 f0_endings_134 f0_queueEnd_135 am601_138 am602_141 am603_144 am604_147 am605_150 am606_153 am607_156 am608_159 am609_162 am6010_165 am6011_168 am6012_171)) (f0_learned_91, f0_rows_92, f0_endings_93, f0_queueEnd_94, am561_97, am562_100, am563_103, am564_106, am565_109, am566_112, am567_115, am568_118, am569_121, am5610_124, am5611_127, am5612_130)) (f0_learned_50, f0_rows_51, f0_endings_52, f0_queueEnd_53, am521_56, am522_59, am523_62, am524_65, am525_68, am526_71, am527_74, am528_77, am529_80, am5210_83, am5211_86, am5212_89)) (f0_learned, f0_rows, f0_endings, f0_queueEnd, a1, a2, a3, a4, a5, a6, a7, a8, a9, a10, a11, a12)))
theorem ld_s_wX_learn_41 {post : St2 → Prop} {pb : St2 → Bool}  {n : Nat} {x1 : Int32} {x2 : Int32} {f0_learned : Int32} {f0_rows : Int32} {f0_endings : Int32} {f0_queueEnd : Int32} {a1 : (Nat → Int32)} {a2 : (Nat → Int32)} {a3 : (Nat → Int32)} {a4 : (Nat → Int32)} {a5 : (Nat → Int32)} {a6 : (Nat → Int32)} {a7 : (Nat → Int32)} {a8 : (Nat → Int32)} {a9 : (Nat → Int32)} {a10 : (Nat → Int32)} {a11 : (Nat → Int32)} {a12 : (Nat → Int32)} (hp : ∀ y0, ld_Im (pb y0) (post y0)) : ld_Im (ld_wX_learn_41 pb n x1 x2 f0_learned f0_rows f0_endings f0_queueEnd a1 a2 a3 a4 a5 a6 a7 a8 a9 a10 a11 a12) (wX_learn_41 post n x1 x2 f0_learned f0_rows f0_endings f0_queueEnd a1 a2 a3 a4 a5 a6 a7 a8 a9 a10 a11 a12) := by
  revert x1 x2 f0_learned f0_rows f0_endings f0_queueEnd a1 a2 a3 a4 a5 a6 a7 a8 a9 a10 a11 a12
  induction n with
  | zero => intro x1 x2 f0_learned f0_rows f0_endings f0_queueEnd a1 a2 a3 a4 a5 a6 a7 a8 a9 a10 a11 a12; exact ld_iF
  | succ n ih =>
    intro x1 x2 f0_learned f0_rows f0_endings f0_queueEnd a1 a2 a3 a4 a5 a6 a7 a8 a9 a10 a11 a12
    exact ld_iIf (ld_s_wX_learn_89 hp) (ld_iIf (ld_s_wX_learn_89 hp) (ld_s_wpX_fillRows (fun ⟨f0_learned_50, f0_rows_51, f0_endings_52, f0_queueEnd_53, am521_56, am522_59, am523_62, am524_65, am525_68, am526_71, am527_74, am528_77, am529_80, am5210_83, am5211_86, am5212_89⟩ => ld_s_wpX_closeTable (fun ⟨f0_learned_91, f0_rows_92, f0_endings_93, f0_queueEnd_94, am561_97, am562_100, am563_103, am564_106, am565_109, am566_112, am567_115, am568_118, am569_121, am5610_124, am5611_127, am5612_130⟩ => ld_s_wpX_findWrong (fun r_131 ⟨f0_learned_132, f0_rows_133, f0_endings_134, f0_queueEnd_135, am601_138, am602_141, am603_144, am604_147, am605_150, am606_153, am607_156, am608_159, am609_162, am6010_165, am6011_168, am6012_171⟩ => ld_iIf (ld_s_wX_learn_73 hp @ih) (ld_s_wX_learn_73 hp @ih))))))
def ld_wpX_learn (pb : St2 → Bool) (u : St2) : Bool := match u with
  | (f0_learned, f0_rows, f0_endings, f0_queueEnd, a1, a2, a3, a4, a5, a6, a7, a8, a9, a10, a11, a12) => (if f0_learned = 0 then ld_let (upd a3 0 1) (fun a3_3 : Nat → Int32 => ld_let (upd a5 0 1) (fun a5_5 : Nat → Int32 => ld_wX_learn_41 pb 64 1 0 1 1 1 f0_queueEnd a1 a2 a3_3 a4 a5_5 a6 a7 a8 a9 a10 a11 a12)) else pb (f0_learned, f0_rows, f0_endings, f0_queueEnd, a1, a2, a3, a4, a5, a6, a7, a8, a9, a10, a11, a12))
theorem ld_s_wpX_learn {post : St2 → Prop} {pb : St2 → Bool} {u : St2} (hp : ∀ y0, ld_Im (pb y0) (post y0)) : ld_Im (ld_wpX_learn pb u) (wpX_learn post u) := by
  obtain ⟨f0_learned, f0_rows, f0_endings, f0_queueEnd, a1, a2, a3, a4, a5, a6, a7, a8, a9, a10, a11, a12⟩ := u
  unfold ld_wpX_learn wpX_learn
  exact ld_iIf (ld_iLet (fun a3_3 => ld_iLet (fun a5_5 => ld_iEx 64 (ld_s_wX_learn_41 hp)))) (hp _)
def ld_wpX_kinds (pb : Int32 → St2 → Bool) (u : St2) : Bool := match u with
  | (f0_learned, f0_rows, f0_endings, f0_queueEnd, a1, a2, a3, a4, a5, a6, a7, a8, a9, a10, a11, a12) => ld_wpX_learn (fun u => match u with | (f0_learned_2, f0_rows_3, f0_endings_4, f0_queueEnd_5, am11_8, am12_11, am13_14, am14_17, am15_20, am16_23, am17_26, am18_29, am19_32, am110_35, am111_38, am112_41) => pb f0_rows_3 (f0_learned_2, f0_rows_3, f0_endings_4, f0_queueEnd_5, am11_8, am12_11, am13_14, am14_17, am15_20, am16_23, am17_26, am18_29, am19_32, am110_35, am111_38, am112_41)) (f0_learned, f0_rows, f0_endings, f0_queueEnd, a1, a2, a3, a4, a5, a6, a7, a8, a9, a10, a11, a12)
theorem ld_s_wpX_kinds {post : Int32 → St2 → Prop} {pb : Int32 → St2 → Bool} {u : St2} (hp : ∀ y0 y1, ld_Im (pb y0 y1) (post y0 y1)) : ld_Im (ld_wpX_kinds pb u) (wpX_kinds post u) := by
  obtain ⟨f0_learned, f0_rows, f0_endings, f0_queueEnd, a1, a2, a3, a4, a5, a6, a7, a8, a9, a10, a11, a12⟩ := u
  unfold ld_wpX_kinds wpX_kinds
  exact ld_s_wpX_learn (fun ⟨f0_learned_2, f0_rows_3, f0_endings_4, f0_queueEnd_5, am11_8, am12_11, am13_14, am14_17, am15_20, am16_23, am17_26, am18_29, am19_32, am110_35, am111_38, am112_41⟩ => hp _ _)
def ld_wX_difference_130 (pb : Int32 → St2 → Bool) (J59b : Int32 → Int32 → Int32 → Int32 → Int32 → (Nat → Int32) → (Nat → Int32) → (Nat → Int32) → (Nat → Int32) → (Nat → Int32) → (Nat → Int32) → (Nat → Int32) → (Nat → Int32) → (Nat → Int32) → (Nat → Int32) → (Nat → Int32) → (Nat → Int32) → Bool) (x7 : Int32) (x8 : Int32) (x9 : Int32) : Nat → Int32 → Int32 → Int32 → Int32 → Int32 → (Nat → Int32) → (Nat → Int32) → (Nat → Int32) → (Nat → Int32) → (Nat → Int32) → (Nat → Int32) → (Nat → Int32) → (Nat → Int32) → (Nat → Int32) → (Nat → Int32) → (Nat → Int32) → (Nat → Int32) → Bool
  | 0 => fun _ _ _ _ _ _ _ _ _ _ _ _ _ _ _ _ _ => false
  | n + 1 => fun x10 f0_learned f0_rows f0_endings f0_queueEnd am531 am532 am533 am534 am535 am536 am537 am538 am539 am5310 am5311 am5312 => (if 2 ≤ x10 then ld_let (x7 + 1) (fun x7_103 : Int32 => J59b x7_103 f0_learned f0_rows f0_endings f0_queueEnd am531 am532 am533 am534 am535 am536 am537 am538 am539 am5310 am5311 am5312) else (ld_in ((2 * x8) + x10) 14 && (ld_in ((2 * x9) + x10) 14 && (ld_in x7 49 && ld_wpX_reachPair (fun u => match u with | (f0_learned_108, f0_rows_109, f0_endings_110, f0_queueEnd_111, am1731_114, am1732_117, am1733_120, am1734_123, am1735_126, am1736_129, am1737_132, am1738_135, am1739_138, am17310_141, am17311_144, am17312_147) => ld_let (x10 + 1) (fun x10_148 : Int32 => ld_wX_difference_130 pb J59b x7 x8 x9 n x10_148 f0_learned_108 f0_rows_109 f0_endings_110 f0_queueEnd_111 am1731_114 am1732_117 am1733_120 am1734_123 am1735_126 am1736_129 am1737_132 am1738_135 am1739_138 am17310_141 am17311_144 am17312_147)) (f0_learned, f0_rows, f0_endings, f0_queueEnd, am531, am532, am533, am534, am535, am536, am537, am538, am539, am5310, am5311, am5312) (am536 ((2 * x8) + x10).toNatClampNeg) (am536 ((2 * x9) + x10).toNatClampNeg) ((2 * (am539 x7.toNatClampNeg)) + x10)))))
theorem ld_s_wX_difference_130 {post : Int32 → St2 → Prop} {pb : Int32 → St2 → Bool} {J59 : Int32 → Int32 → Int32 → Int32 → Int32 → (Nat → Int32) → (Nat → Int32) → (Nat → Int32) → (Nat → Int32) → (Nat → Int32) → (Nat → Int32) → (Nat → Int32) → (Nat → Int32) → (Nat → Int32) → (Nat → Int32) → (Nat → Int32) → (Nat → Int32) → Prop} {J59b : Int32 → Int32 → Int32 → Int32 → Int32 → (Nat → Int32) → (Nat → Int32) → (Nat → Int32) → (Nat → Int32) → (Nat → Int32) → (Nat → Int32) → (Nat → Int32) → (Nat → Int32) → (Nat → Int32) → (Nat → Int32) → (Nat → Int32) → (Nat → Int32) → Bool} {x7 : Int32} {x8 : Int32} {x9 : Int32} {n : Nat} {x10 : Int32} {f0_learned : Int32} {f0_rows : Int32} {f0_endings : Int32} {f0_queueEnd : Int32} {am531 : (Nat → Int32)} {am532 : (Nat → Int32)} {am533 : (Nat → Int32)} {am534 : (Nat → Int32)} {am535 : (Nat → Int32)} {am536 : (Nat → Int32)} {am537 : (Nat → Int32)} {am538 : (Nat → Int32)} {am539 : (Nat → Int32)} {am5310 : (Nat → Int32)} {am5311 : (Nat → Int32)} {am5312 : (Nat → Int32)} (hp : ∀ y0 y1, ld_Im (pb y0 y1) (post y0 y1)) (hJ59 : ∀ y0 y1 y2 y3 y4 y5 y6 y7 y8 y9 y10 y11 y12 y13 y14 y15 y16, ld_Im (J59b y0 y1 y2 y3 y4 y5 y6 y7 y8 y9 y10 y11 y12 y13 y14 y15 y16) (J59 y0 y1 y2 y3 y4 y5 y6 y7 y8 y9 y10 y11 y12 y13 y14 y15 y16)) : ld_Im (ld_wX_difference_130 pb J59b x7 x8 x9 n x10 f0_learned f0_rows f0_endings f0_queueEnd am531 am532 am533 am534 am535 am536 am537 am538 am539 am5310 am5311 am5312) (wX_difference_130 post J59 x7 x8 x9 n x10 f0_learned f0_rows f0_endings f0_queueEnd am531 am532 am533 am534 am535 am536 am537 am538 am539 am5310 am5311 am5312) := by
  revert x10 f0_learned f0_rows f0_endings f0_queueEnd am531 am532 am533 am534 am535 am536 am537 am538 am539 am5310 am5311 am5312
  induction n with
  | zero => intro x10 f0_learned f0_rows f0_endings f0_queueEnd am531 am532 am533 am534 am535 am536 am537 am538 am539 am5310 am5311 am5312; exact ld_iF
  | succ n ih =>
    intro x10 f0_learned f0_rows f0_endings f0_queueEnd am531 am532 am533 am534 am535 am536 am537 am538 am539 am5310 am5311 am5312
    exact ld_iIf (ld_iLet (fun x7_103 => hJ59 _ _ _ _ _ _ _ _ _ _ _ _ _ _ _ _ _)) (ld_iIn (ld_iIn (ld_iIn (ld_s_wpX_reachPair (fun ⟨f0_learned_108, f0_rows_109, f0_endings_110, f0_queueEnd_111, am1731_114, am1732_117, am1733_120, am1734_123, am1735_126, am1736_129, am1737_132, am1738_135, am1739_138, am17310_141, am17311_144, am17312_147⟩ => ld_iLet (fun x10_148 => ih))))))
def ld_wX_difference_59 (pb : Int32 → St2 → Bool) : Nat → Int32 → Int32 → Int32 → Int32 → Int32 → (Nat → Int32) → (Nat → Int32) → (Nat → Int32) → (Nat → Int32) → (Nat → Int32) → (Nat → Int32) → (Nat → Int32) → (Nat → Int32) → (Nat → Int32) → (Nat → Int32) → (Nat → Int32) → (Nat → Int32) → Bool
  | 0 => fun _ _ _ _ _ _ _ _ _ _ _ _ _ _ _ _ _ => false
  | n + 1 => fun x7 f0_learned f0_rows f0_endings f0_queueEnd am531 am532 am533 am534 am535 am536 am537 am538 am539 am5310 am5311 am5312 => (if f0_queueEnd ≤ x7 then pb 0 (f0_learned, f0_rows, f0_endings, f0_queueEnd, am531, am532, am533, am534, am535, am536, am537, am538, am539, am5310, am5311, am5312) else (if 49 ≤ x7 then pb 0 (f0_learned, f0_rows, f0_endings, f0_queueEnd, am531, am532, am533, am534, am535, am536, am537, am538, am539, am5310, am5311, am5312) else (ld_in x7 49 && (decide (¬ (7 : Int32) = 0) && ld_let ((am538 x7.toNatClampNeg) / 7) (fun x8_95 : Int32 => (ld_in x7 49 && (decide (¬ (7 : Int32) = 0) && ld_let ((am538 x7.toNatClampNeg) - (am538 x7.toNatClampNeg) / 7 * 7) (fun x9_98 : Int32 => (ld_in x8_95 7 && (ld_in x9_98 7 && (if (((am534 x8_95.toNatClampNeg) ^^^ (am534 x9_98.toNatClampNeg)) &&& 1) = 0 then ld_wX_difference_130 pb (ld_wX_difference_59 pb n) x7 x8_95 x9_98 64 0 f0_learned f0_rows f0_endings f0_queueEnd am531 am532 am533 am534 am535 am536 am537 am538 am539 am5310 am5311 am5312 else (ld_in x7 49 && pb (am539 x7.toNatClampNeg) (f0_learned, f0_rows, f0_endings, f0_queueEnd, am531, am532, am533, am534, am535, am536, am537, am538, am539, am5310, am5311, am5312)))))))))))))
theorem ld_s_wX_difference_59 {post : Int32 → St2 → Prop} {pb : Int32 → St2 → Bool}  {n : Nat} {x7 : Int32} {f0_learned : Int32} {f0_rows : Int32} {f0_endings : Int32} {f0_queueEnd : Int32} {am531 : (Nat → Int32)} {am532 : (Nat → Int32)} {am533 : (Nat → Int32)} {am534 : (Nat → Int32)} {am535 : (Nat → Int32)} {am536 : (Nat → Int32)} {am537 : (Nat → Int32)} {am538 : (Nat → Int32)} {am539 : (Nat → Int32)} {am5310 : (Nat → Int32)} {am5311 : (Nat → Int32)} {am5312 : (Nat → Int32)} (hp : ∀ y0 y1, ld_Im (pb y0 y1) (post y0 y1)) : ld_Im (ld_wX_difference_59 pb n x7 f0_learned f0_rows f0_endings f0_queueEnd am531 am532 am533 am534 am535 am536 am537 am538 am539 am5310 am5311 am5312) (wX_difference_59 post n x7 f0_learned f0_rows f0_endings f0_queueEnd am531 am532 am533 am534 am535 am536 am537 am538 am539 am5310 am5311 am5312) := by
  revert x7 f0_learned f0_rows f0_endings f0_queueEnd am531 am532 am533 am534 am535 am536 am537 am538 am539 am5310 am5311 am5312
  induction n with
  | zero => intro x7 f0_learned f0_rows f0_endings f0_queueEnd am531 am532 am533 am534 am535 am536 am537 am538 am539 am5310 am5311 am5312; exact ld_iF
  | succ n ih =>
    intro x7 f0_learned f0_rows f0_endings f0_queueEnd am531 am532 am533 am534 am535 am536 am537 am538 am539 am5310 am5311 am5312
    exact ld_iIf (hp _ _) (ld_iIf (hp _ _) (ld_iIn (ld_iDec (ld_iLet (fun x8_95 => ld_iIn (ld_iDec (ld_iLet (fun x9_98 => ld_iIn (ld_iIn (ld_iIf (ld_iEx 64 (ld_s_wX_difference_130 hp @ih)) (ld_iIn (hp _ _))))))))))))
end
section
/-! The closed computation: what `kinds` leaves behind, and every search of `difference` -/
def ld_due (a b : Nat) : Int32 := if a = b then 0 else if a = 0 then 1 else if b = 0 then 1 else 3
def ld_hid (r : Nat) : Nat := if r = 0 then 0 else if r = 1 then 4 else 6
def ld_bit (r : Nat) : Int32 := if r = 0 then 1 else 0
def ld_chk2 (m : Nat) (u : St2) : Bool := match u with
  | (f1, f2, f3, f4, a1, a2, a3, a4, a5, a6, a7, a8, a9, a10, a11, a12) => decide (¬ f1 = 0) && (decide (f2 = nI m) && (decide (a12 0 = 1) && (decide (a12 1 = 3) && decide (m = 3 → a12 2 = 7))))
def ld_diff (m a b : Nat) (u : St2) : Bool :=
  ld_wpX_startSearch (fun u => match u with | (f1, f2, f3, f4, a1, a2, a3, a4, a5, a6, a7, a8, a9, a10, a11, a12) => ld_wX_difference_59 (fun r u => decide (r = ld_due a b) && ld_chk2 m u) 64 0 f1 f2 f3 f4 a1 a2 a3 a4 a5 a6 a7 a8 a9 a10 a11 a12) u (nI a) (nI b)
def ld_row1 (m : Nat) (a1 a2 a6 a11 : Nat → Int32) (r : Nat) : Bool :=
  decide (a11 r = nI r) && (decide (a2 (ld_hid r) = ld_bit r) && (List.range 2).all (fun b => decide (a6 (2 * r + b) = nI ((r + b) % m)) && decide (a1 (2 * ld_hid r + b) = nI (ld_hid ((r + b) % m)))))
def ld_chk (m : Nat) (u : St2) : Bool := match u with
  | (f1, f2, f3, f4, a1, a2, a3, a4, a5, a6, a7, a8, a9, a10, a11, a12) => decide (¬ f1 = 0) && ((List.range m).all (ld_row1 m a1 a2 a6 a11) && (List.range m).all (fun a => (List.range m).all (fun b => ld_diff m a b (f1, f2, f3, f4, a1, a2, a3, a4, a5, a6, a7, a8, a9, a10, a11, a12))))
def ld_k5 (m : Nat) : Int32 → St2 → Bool := fun r u => if r = nI m then ld_chk m u else false
def ld_k4 (m : Nat) : Int32 → St2 → Bool := fun r u => if r = 0 then ld_wpX_kinds (ld_k5 m) u else false
def ld_k3 (m : Nat) : Int32 → St2 → Bool := fun r u => if r = 0 then ld_wpX_good (ld_k4 m) u 0 1 else false
def ld_k2 (m : Nat) : Int32 → St2 → Bool := fun _ u => ld_wpX_arrow (ld_k3 m) u 6 1 0
def ld_k1 (m : Nat) (z : Int32) : Int32 → St2 → Bool := fun _ u => ld_wpX_arrow (ld_k2 m) u 4 3 z
def ld_k0 (m : Nat) (z : Int32) : St2 → Bool := fun u => ld_wpX_arrow (ld_k1 m z) u 0 1 4
def ld_all (m : Nat) (z : Int32) : Bool := ld_wpX_init (ld_k0 m z) 12 227 (0, 0, 0, 0)
theorem ld_all2 : ld_all 2 0 = true := by decide +kernel
theorem ld_all3 : ld_all 3 6 = true := by decide +kernel
theorem ld_facts {m : Nat} {f1 f2 f3 f4 : Int32} {a1 a2 a3 a4 a5 a6 a7 a8 a9 a10 a11 a12 : Nat → Int32} (h : ld_chk m (f1, f2, f3, f4, a1, a2, a3, a4, a5, a6, a7, a8, a9, a10, a11, a12) = true) :
    ¬ f1 = 0 ∧ (∀ r, r < m → a11 r = nI r) ∧ (∀ r, r < m → a2 (ld_hid r) = ld_bit r) ∧ (∀ r, r < m → ∀ b, b < 2 → a6 (2 * r + b) = nI ((r + b) % m)) ∧
    (∀ r, r < m → ∀ b, b < 2 → a1 (2 * ld_hid r + b) = nI (ld_hid ((r + b) % m))) ∧ (∀ a, a < m → ∀ b, b < m → ld_diff m a b (f1, f2, f3, f4, a1, a2, a3, a4, a5, a6, a7, a8, a9, a10, a11, a12) = true) := by
  unfold ld_chk at h
  have h1 := ld_and h
  have h2 := ld_and h1.2
  have g1 : ¬ f1 = 0 := of_decide_eq_true h1.1
  have R : ∀ r, r < m → ld_row1 m a1 a2 a6 a11 r = true := fun r hr => List.all_eq_true.mp h2.1 r (List.mem_range.mpr hr)
  have B : ∀ r, r < m → ∀ b, b < 2 → (decide (a6 (2 * r + b) = nI ((r + b) % m)) && decide (a1 (2 * ld_hid r + b) = nI (ld_hid ((r + b) % m)))) = true :=
    fun r hr b hb => List.all_eq_true.mp (ld_and (ld_and (R r hr)).2).2 b (List.mem_range.mpr hb)
  refine ⟨g1, fun r hr => of_decide_eq_true (ld_and (R r hr)).1, fun r hr => of_decide_eq_true (ld_and (ld_and (R r hr)).2).1,
    fun r hr b hb => of_decide_eq_true (ld_and (B r hr b hb)).1, fun r hr b hb => of_decide_eq_true (ld_and (B r hr b hb)).2, ?_⟩
  intro a ha b hb
  exact List.all_eq_true.mp (List.all_eq_true.mp h2.2 a (List.mem_range.mpr ha)) b (List.mem_range.mpr hb)
end
section
/-! Words: how many ones stand behind the leading one -/
def ld_sm (W : Nat) : Nat → Nat
  | 0 => 0
  | i + 1 => ld_sm W i + W / 2 ^ i % 2
def ld_cw (W : Nat) : Nat := ld_sm W (Nat.log2 W)
theorem ld_sm_hi {W k : Nat} (h : W < 2 ^ k) : ∀ d, ld_sm W (k + d) = ld_sm W k := by
  intro d
  induction d with
  | zero => rfl
  | succ d ih =>
    have e : W / 2 ^ (k + d) = 0 := Nat.div_eq_of_lt (Nat.lt_of_lt_of_le h (Nat.pow_le_pow_right (by omega) (by omega)))
    show ld_sm W (k + d) + W / 2 ^ (k + d) % 2 = ld_sm W k
    rw [ih, e]
    rfl
theorem ld_log {W k : Nat} (h0 : 0 < W) (h : W < 2 ^ k) : Nat.log2 W < k := (Nat.log2_lt (by omega)).mpr h
theorem ld_sm12 {W : Nat} (h0 : 0 < W) (h : W < 4096) : ld_sm W 12 = ld_cw W + 1 := by
  have hN : Nat.log2 W < 12 := ld_log h0 (by omega)
  have h1 : 2 ^ Nat.log2 W ≤ W := Nat.log2_self_le (by omega)
  have h2 : W < 2 ^ (Nat.log2 W + 1) := Nat.lt_log2_self
  have e : ld_sm W 12 = ld_sm W (Nat.log2 W + 1) := by
    have t := ld_sm_hi h2 (11 - Nat.log2 W)
    rw [show Nat.log2 W + 1 + (11 - Nat.log2 W) = 12 by omega] at t
    exact t
  have q : W / 2 ^ Nat.log2 W = 1 := by
    rw [Nat.pow_succ] at h2
    exact Nat.div_eq_of_lt_le (by omega) (by omega)
  rw [e]
  show ld_sm W (Nat.log2 W) + W / 2 ^ Nat.log2 W % 2 = ld_cw W + 1
  rw [q]
  rfl
theorem ld_sm_le (W : Nat) : ∀ i, ld_sm W i ≤ i := by
  intro i
  induction i with
  | zero => exact Nat.le_refl 0
  | succ i ih =>
    show ld_sm W i + W / 2 ^ i % 2 ≤ i + 1
    have := Nat.mod_lt (W / 2 ^ i) (show 0 < 2 by omega)
    omega
theorem ld_cw_lt {W : Nat} (h0 : 0 < W) (h : W < 4096) : ld_cw W < 12 :=
  Nat.lt_of_le_of_lt (ld_sm_le W _) (ld_log h0 (by omega))
theorem ld_tl : ∀ n, n < 32 → ((nI n &&& 31).toBitVec.smod 32).toNat = n := by decide +kernel
theorem ld_tu : ∀ n, n < 32 → (((nI n).toUInt32 &&& Int32.toUInt32 31).toBitVec % 32).toNat = n := by decide +kernel
theorem ld_sb (a b : Nat) : nI a - 1 + nI b = nI (a + b) - 1 := by
  rw [← nI_add]
  grind
theorem ld_bitS {W i : Nat} (h : W < 4096) (hi : i < 32) : nI W >>> (nI i &&& 31) &&& 1 = nI (W / 2 ^ i % 2) := by
  rw [pk_shrN (by omega) (nI i &&& 31) i (ld_tl i hi)]
  have hq : W / 2 ^ i ≤ W := Nat.div_le_self _ _
  exact pk_andN (n := W / 2 ^ i) (by omega) (m := 1) 1 (by decide)
theorem ld_shU {W i : Nat} (h : W < 2 ^ 31) (hi : i < 32) : ((nI W).toUInt32 >>> ((nI i).toUInt32 &&& Int32.toUInt32 31)).toInt32 = nI (W / 2 ^ i) :=
  pk_ushrN (by omega) (nI i) i (ld_tu i hi)
theorem ld_bitU {W i : Nat} (h : W < 4096) (hi : i < 32) : ((nI W).toUInt32 >>> ((nI i).toUInt32 &&& Int32.toUInt32 31)).toInt32 &&& 1 = nI (W / 2 ^ i % 2) := by
  rw [ld_shU (by omega) hi]
  have hq : W / 2 ^ i ≤ W := Nat.div_le_self _ _
  exact pk_andN (n := W / 2 ^ i) (by omega) (m := 1) 1 (by decide)
theorem ld_ix {W i r : Nat} (h : W < 4096) (hi : i < 32) : (2 * nI r) + (((nI W).toUInt32 >>> ((nI i).toUInt32 &&& Int32.toUInt32 31)).toInt32 &&& 1) = nI (2 * r + W / 2 ^ i % 2) := by
  rw [ld_bitU h hi]
  have e : (2 : Int32) * nI r = nI (2 * r) := pk_mul 2 r
  rw [e, nI_add]
theorem ld_ones {post : Int32 → Prop} {W : Nat} (h0 : 0 < W) (h : W < 4096) (H : post (nI (ld_cw W))) : wpL_ones post () (nI W) := by
  have t := pk_loop (σ := Unit) (fun n i _ => wL_ones_4 post (nI W) n (nI (ld_sm W i) - 1) (nI i)) (fun _ _ => True) 12 0 () (by omega) trivial
    (fun n _ _ => pk_le 12 12 (fun _ => by rw [ld_sm12 h0 h, nI_pred]; exact H) (fun z => absurd z (by omega)))
    (fun n i _ hi _ hw => pk_le 12 i (fun z => absurd z (by omega)) (fun _ => nm_r (by rw [ld_bitS h (by omega), ld_sb]; rfl) (nm_r (nI_1 i) (hw () trivial))))
  obtain ⟨n, hn⟩ := t
  have hn' : wL_ones_4 post (nI W) n (nI 0 - 1) (nI 0) := hn
  rw [show nI 0 - 1 = (-1 : Int32) by decide] at hn'
  exact ⟨n, hn'⟩
theorem ld_len {post : Int32 → Prop} {W : Nat} (h0 : 0 < W) (h : W < 4096) (H : post (nI (Nat.log2 W))) : wpX_lengthOf post () (nI W) := by
  have hN : Nat.log2 W < 12 := ld_log h0 (by omega)
  have t := pk_loop (σ := Unit) (fun n i _ => wX_lengthOf_4 post (nI W) n (nI (min (Nat.log2 W) (i - 1))) (nI i)) (fun i _ => 1 ≤ i) 31 1 () (by omega) (by omega)
    (fun n _ _ => pk_le 31 31 (fun _ => by rw [show min (Nat.log2 W) (31 - 1) = Nat.log2 W by omega]; exact H) (fun z => absurd z (by omega)))
    (fun n i _ hi h1 hw => pk_le 31 i (fun z => absurd z (by omega)) (fun _ => by
      have t := hw () (by omega)
      rw [ld_shU (by omega) (by omega)]
      have hq : W / 2 ^ i ≤ W := Nat.div_le_self _ _
      refine pk_eq (W / 2 ^ i) 0 (fun z => nm_r (nI_1 i) ?_) (fun z => nm_r (nI_1 i) ?_)
      · have hlt : W < 2 ^ i := by
          rcases Nat.lt_or_ge W (2 ^ i) with g | g
          · exact g
          · have := Nat.div_pos g (Nat.pow_pos (show 0 < 2 by omega))
            omega
        have hl : Nat.log2 W < i := ld_log h0 hlt
        rw [show min (Nat.log2 W) (i + 1 - 1) = min (Nat.log2 W) (i - 1) by omega] at t
        exact t
      · have hge : ¬ Nat.log2 W < i := fun g => z (Nat.div_eq_of_lt ((Nat.log2_lt (by omega)).mp g))
        rw [show min (Nat.log2 W) (i + 1 - 1) = i by omega] at t
        exact t))
  obtain ⟨n, hn⟩ := t
  have hn' : wX_lengthOf_4 post (nI W) n (nI (min (Nat.log2 W) (1 - 1))) (nI 1) := hn
  rw [show min (Nat.log2 W) (1 - 1) = 0 by omega] at hn'
  exact ⟨n, hn'⟩
theorem ld_m1 (j : Nat) : nI j + (-1) = nI j - 1 := by grind
theorem ld_ss (N : Nat) : nI N - nI N = nI 0 := by
  rw [pk_sub (Nat.le_refl N), Nat.sub_self]
theorem ld_neg : nI 0 - 1 < nI 0 := by decide
theorem ld_step {m r s b t : Nat} (he : (r + (s + b)) % m = t) : ((r + b) % m + s) % m = t := by
  rw [← he, Nat.mod_add_mod, show r + b + s = r + (s + b) by omega]
theorem ld_isWord {post : Int32 → Prop} {W : Nat} (h0 : 0 < W) (h : W < 4096) (H : post 1) : wpX_isWord post () (nI W) :=
  pk_lt W 1 (fun z => absurd z (by omega)) (fun _ => pk_lt 4095 W (fun z => absurd z (by omega)) (fun _ => H))
theorem ld_word (p : Int32) : ∃ W : Nat, 0 < W ∧ W < 4096 ∧ 1 + (p &&& 4094) = nI W := by
  have hb : (p &&& 4094).toBitVec.toNat ≤ 4094 := by
    rw [Int32.toBitVec_and, BitVec.toNat_and]
    exact Nat.and_le_right
  have hn : p &&& 4094 = nI (p &&& 4094).toBitVec.toNat := by
    apply Int32.toBitVec_inj.mp
    apply BitVec.eq_of_toNat_eq
    rw [pk_tn (by omega)]
  refine ⟨1 + (p &&& 4094).toBitVec.toNat, by omega, by omega, ?_⟩
  rw [hn, pk_tn (by omega)]
  exact nI_add 1 _
end
section
/-! The methods over a learned state -/
theorem ld_learn {post : St2 → Prop} {f1 f2 f3 f4 : Int32} {a1 a2 a3 a4 a5 a6 a7 a8 a9 a10 a11 a12 : Nat → Int32} (hl : ¬ f1 = 0) (H : post (f1, f2, f3, f4, a1, a2, a3, a4, a5, a6, a7, a8, a9, a10, a11, a12)) : wpX_learn post (f1, f2, f3, f4, a1, a2, a3, a4, a5, a6, a7, a8, a9, a10, a11, a12) := by
  unfold wpX_learn
  exact br_f hl H
theorem ld_rowA {post : Int32 → Prop} {f1 f2 f3 f4 : Int32} {a1 a2 a3 a4 a5 a6 a7 a8 a9 a10 a11 a12 : Nat → Int32} {m W : Nat} (hm0 : 0 < m) (hm : m ≤ 3)
    (h6 : ∀ r, r < m → ∀ b, b < 2 → a6 (2 * r + b) = nI ((r + b) % m)) (h0 : 0 < W) (h : W < 4096) (H : post (nI (ld_cw W % m))) :
    wpX_rowAfter post (f1, f2, f3, f4, a1, a2, a3, a4, a5, a6, a7, a8, a9, a10, a11, a12) (nI W) (nI (Nat.log2 W)) := by
  have hN : Nat.log2 W < 12 := ld_log h0 (by omega)
  unfold wpX_rowAfter
  refine ld_len h0 h (nm_e ⟨Nat.log2 W + 1, ?_⟩)
  refine pk_loopD (fun n j (r : Nat) => wX_rowAfter_14 post (nI W) (nI (Nat.log2 W)) (nI (Nat.log2 W)) f1 f2 f3 f4 a1 a2 a3 a4 a5 a6 a7 a8 a9 a10 a11 a12 n (nI r) (nI j - 1)) (fun j r => j < 12 ∧ r < m ∧ (r + ld_sm W j) % m = ld_cw W % m) ?_ ?_ (Nat.log2 W) 0 ⟨hN, hm0, by rw [Nat.zero_add]; rfl⟩
  · intro n r hI
    obtain ⟨_, hr, he⟩ := hI
    have e : r = ld_cw W % m := by
      rw [← he]
      exact (Nat.mod_eq_of_lt hr).symm
    refine br_t ?_ ?_
    · rw [ld_ss]
      exact ld_neg
    · rw [e]
      exact H
  · intro n j r hI hw
    obtain ⟨hj, hr, he⟩ := hI
    have hb : W / 2 ^ j % 2 < 2 := Nat.mod_lt _ (by omega)
    show wX_rowAfter_14 post (nI W) (nI (Nat.log2 W)) (nI (Nat.log2 W)) f1 f2 f3 f4 a1 a2 a3 a4 a5 a6 a7 a8 a9 a10 a11 a12 (n + 1) (nI r) (nI (j + 1) - 1)
    rw [nI_pred]
    refine br_f ?_ ⟨?_, nm_r ?_ (nm_r (ld_m1 j) (hw ((r + W / 2 ^ j % 2) % m) ⟨by omega, Nat.mod_lt _ hm0, ld_step he⟩))⟩
    · rw [ld_ss]
      exact nI_nlt (Nat.zero_le j) (by omega)
    · rw [ld_ix h (by omega)]
      exact vp_in_nI (by omega) (by omega)
    · rw [ld_ix h (by omega), nI_clamp (by omega)]
      exact h6 r hr _ hb
theorem ld_goodW {post : Int32 → Prop} {f1 f2 f3 f4 : Int32} {a1 a2 a3 a4 a5 a6 a7 a8 a9 a10 a11 a12 : Nat → Int32} {m W : Nat} (hm0 : 0 < m) (hm : m ≤ 3)
    (h1 : ∀ r, r < m → ∀ b, b < 2 → a1 (2 * ld_hid r + b) = nI (ld_hid ((r + b) % m))) (h2 : ∀ r, r < m → a2 (ld_hid r) = ld_bit r) (h0 : 0 < W) (h : W < 4096) (H : post (ld_bit (ld_cw W % m))) :
    wpX_isGoodWord post (f1, f2, f3, f4, a1, a2, a3, a4, a5, a6, a7, a8, a9, a10, a11, a12) (nI W) := by
  have hN : Nat.log2 W < 12 := ld_log h0 (by omega)
  have hh : ∀ r, ld_hid r < 7 := by
    intro r
    unfold ld_hid
    split
    · omega
    · split <;> omega
  have hbt : ∀ r, ld_bit r = 0 ∨ ld_bit r = 1 := by
    intro r
    unfold ld_bit
    split
    · exact Or.inr rfl
    · exact Or.inl rfl
  unfold wpX_isGoodWord
  refine ld_len h0 h (nm_e ⟨Nat.log2 W + 1, ?_⟩)
  refine pk_loopD (fun n j (r : Nat) => wX_isGoodWord_9 post (nI W) f1 f2 f3 f4 a1 a2 a3 a4 a5 a6 a7 a8 a9 a10 a11 a12 n (nI (ld_hid r)) (nI j - 1)) (fun j r => j < 12 ∧ r < m ∧ (r + ld_sm W j) % m = ld_cw W % m) ?_ ?_ (Nat.log2 W) 0 ⟨hN, hm0, by rw [Nat.zero_add]; rfl⟩
  · intro n r hI
    obtain ⟨_, hr, he⟩ := hI
    have hr7 := hh r
    have e : r = ld_cw W % m := by
      rw [← he]
      exact (Nat.mod_eq_of_lt hr).symm
    have ec : a2 (nI (ld_hid r)).toNatClampNeg = ld_bit r := by
      rw [nI_clamp (by omega)]
      exact h2 r hr
    refine br_t ld_neg ⟨vp_in_nI hr7 (by omega), ?_, ?_⟩
    · rw [ec]
      exact ld_nar (hbt r)
    · rw [ec, e]
      exact H
  · intro n j r hI hw
    obtain ⟨hj, hr, he⟩ := hI
    have hr7 := hh r
    have hb : W / 2 ^ j % 2 < 2 := Nat.mod_lt _ (by omega)
    show wX_isGoodWord_9 post (nI W) f1 f2 f3 f4 a1 a2 a3 a4 a5 a6 a7 a8 a9 a10 a11 a12 (n + 1) (nI (ld_hid r)) (nI (j + 1) - 1)
    rw [nI_pred]
    refine br_f (nI_nlt (Nat.zero_le j) (by omega)) ⟨?_, nm_r ?_ (nm_r (ld_m1 j) (hw ((r + W / 2 ^ j % 2) % m) ⟨by omega, Nat.mod_lt _ hm0, ld_step he⟩))⟩
    · rw [ld_ix h (by omega)]
      exact vp_in_nI (by omega) (by omega)
    · rw [ld_ix h (by omega), nI_clamp (by omega)]
      exact h1 r hr _ hb
theorem ld_kind {post : Int32 → St2 → Prop} {f1 f2 f3 f4 : Int32} {a1 a2 a3 a4 a5 a6 a7 a8 a9 a10 a11 a12 : Nat → Int32} {m W : Nat} (hm0 : 0 < m) (hm : m ≤ 3)
    (hc : ld_chk m (f1, f2, f3, f4, a1, a2, a3, a4, a5, a6, a7, a8, a9, a10, a11, a12) = true) (h0 : 0 < W) (h : W < 4096) (H : post (nI (ld_cw W % m)) (f1, f2, f3, f4, a1, a2, a3, a4, a5, a6, a7, a8, a9, a10, a11, a12)) : wpX_kind post (f1, f2, f3, f4, a1, a2, a3, a4, a5, a6, a7, a8, a9, a10, a11, a12) (nI W) := by
  obtain ⟨g1, g11, g2, g6, ga1, _⟩ := ld_facts hc
  have hr : ld_cw W % m < m := Nat.mod_lt _ hm0
  unfold wpX_kind
  refine ld_isWord h0 h (br_f (by decide) (ld_learn g1 (ld_len h0 h (ld_rowA hm0 hm g6 h0 h ⟨vp_in_nI (by omega) (by omega), ?_⟩))))
  rw [nI_clamp (by omega), g11 _ hr]
  exact H
theorem ld_ask {post : Int32 → Prop} {f1 f2 f3 f4 : Int32} {a1 a2 a3 a4 a5 a6 a7 a8 a9 a10 a11 a12 : Nat → Int32} {m W : Nat} (hm0 : 0 < m) (hm : m ≤ 3)
    (hc : ld_chk m (f1, f2, f3, f4, a1, a2, a3, a4, a5, a6, a7, a8, a9, a10, a11, a12) = true) (h0 : 0 < W) (h : W < 4096) (H : post (ld_bit (ld_cw W % m))) : wpX_ask post (f1, f2, f3, f4, a1, a2, a3, a4, a5, a6, a7, a8, a9, a10, a11, a12) (nI W) := by
  obtain ⟨g1, g11, g2, g6, ga1, _⟩ := ld_facts hc
  unfold wpX_ask
  refine ld_isWord h0 h (br_f (by decide) (ld_goodW hm0 hm ga1 g2 h0 h ?_))
  by_cases e : ld_cw W % m = 0
  · have eb : ld_bit (ld_cw W % m) = 1 := if_pos e
    rw [eb] at H ⊢
    exact br_f (by decide) H
  · have eb : ld_bit (ld_cw W % m) = 0 := if_neg e
    rw [eb] at H ⊢
    exact br_t rfl H
theorem ld_diffL {post : Int32 → St2 → Prop} {f1 f2 f3 f4 : Int32} {a1 a2 a3 a4 a5 a6 a7 a8 a9 a10 a11 a12 : Nat → Int32} {m W V : Nat} (hm0 : 0 < m) (hm : m ≤ 3)
    (hc : ld_chk m (f1, f2, f3, f4, a1, a2, a3, a4, a5, a6, a7, a8, a9, a10, a11, a12) = true) (h0 : 0 < W) (h : W < 4096) (k0 : 0 < V) (k : V < 4096)
    (H : ∀ u, ld_chk2 m u = true → post (ld_due (ld_cw W % m) (ld_cw V % m)) u) : wpX_difference post (f1, f2, f3, f4, a1, a2, a3, a4, a5, a6, a7, a8, a9, a10, a11, a12) (nI W) (nI V) := by
  obtain ⟨g1, g11, g2, g6, ga1, gd⟩ := ld_facts hc
  have hr : ld_cw W % m < m := Nat.mod_lt _ hm0
  have hs : ld_cw V % m < m := Nat.mod_lt _ hm0
  have D := gd _ hr _ hs
  unfold ld_diff at D
  unfold wpX_difference
  refine ld_isWord h0 h (br_f (by decide) (ld_isWord k0 k (br_f (by decide) (ld_learn g1 (ld_len h0 h (ld_len k0 k (ld_rowA hm0 hm g6 h0 h (ld_rowA hm0 hm g6 k0 k ?_))))))))
  refine ld_go D (ld_s_wpX_startSearch (fun ⟨f1, f2, f3, f4, a1, a2, a3, a4, a5, a6, a7, a8, a9, a10, a11, a12⟩ => ld_iEx 64 (ld_s_wX_difference_59 (fun r u => ?_))))
  intro hb
  have hb' := ld_and hb
  have er : r = ld_due (ld_cw W % m) (ld_cw V % m) := of_decide_eq_true hb'.1
  rw [er]
  exact H u hb'.2
def ld_fw (m : Nat) (x : Int32) : Int32 := if x = 0 then 1 else if x = 1 then 3 else if x = 2 then (if m = 3 then 7 else -1) else -1
theorem ld_firstL {post : Int32 → St2 → Prop} {f1 f2 f3 f4 : Int32} {a1 a2 a3 a4 a5 a6 a7 a8 a9 a10 a11 a12 : Nat → Int32} {m : Nat} (hm : m = 2 ∨ m = 3) (x : Int32)
    (hc : ld_chk2 m (f1, f2, f3, f4, a1, a2, a3, a4, a5, a6, a7, a8, a9, a10, a11, a12) = true) (H : post (ld_fw m x) (f1, f2, f3, f4, a1, a2, a3, a4, a5, a6, a7, a8, a9, a10, a11, a12)) : wpX_first post (f1, f2, f3, f4, a1, a2, a3, a4, a5, a6, a7, a8, a9, a10, a11, a12) x := by
  unfold ld_chk2 at hc
  have h1 := ld_and hc
  have h2 := ld_and h1.2
  have h3 := ld_and h2.2
  have h4 := ld_and h3.2
  have g1 : ¬ f1 = 0 := of_decide_eq_true h1.1
  have g2 : f2 = nI m := of_decide_eq_true h2.1
  have g3 : a12 0 = 1 := of_decide_eq_true h3.1
  have g4 : a12 1 = 3 := of_decide_eq_true h4.1
  have g5 : m = 3 → a12 2 = 7 := of_decide_eq_true h4.2
  unfold wpX_first
  refine ld_learn g1 ?_
  have hm3 : m ≤ 3 := by omega
  refine br_c (fun hx => ?_) (fun hx => br_c (fun hl => ?_) (fun hl => ?_))
  · have n0 : ¬ x = 0 := fun e => by rw [e] at hx; exact absurd hx (by decide)
    have n1 : ¬ x = 1 := fun e => by rw [e] at hx; exact absurd hx (by decide)
    have n2 : ¬ x = 2 := fun e => by rw [e] at hx; exact absurd hx (by decide)
    unfold ld_fw at H
    rw [if_neg n0, if_neg n1, if_neg n2] at H
    exact H
  · obtain ⟨j, hj, rfl⟩ := nI_of hx
    have hjm : j < m := by
      rw [g2] at hl
      exact (nI_ltI hj (by omega)).mp hl
    refine ⟨vp_in_nI (by omega) (by omega), ?_⟩
    rw [nI_clamp hj]
    have hj3 : j = 0 ∨ j = 1 ∨ j = 2 := by omega
    rcases hj3 with e | e | e
    · subst e
      rw [g3]
      exact H
    · subst e
      rw [g4]
      exact H
    · subst e
      have e3 : m = 3 := by omega
      rw [g5 e3]
      subst e3
      exact H
  · obtain ⟨j, hj, rfl⟩ := nI_of hx
    have hjm : ¬ j < m := by
      rw [g2] at hl
      exact fun z => hl (nI_lt z (by omega))
    have n0 : ¬ nI j = 0 := nI_ne0 (by omega) hj
    have n1 : ¬ nI j = 1 := fun e => by
      have := (nI_eq hj (show 1 < 2 ^ 31 by omega)).mp e
      omega
    unfold ld_fw at H
    rw [if_neg n0, if_neg n1] at H
    by_cases e2 : nI j = 2
    · have ej := (nI_eq hj (show 2 < 2 ^ 31 by omega)).mp e2
      have n3 : ¬ m = 3 := by omega
      rw [if_pos e2, if_neg n3] at H
      exact H
    · rw [if_neg e2] at H
      exact H
end
section
/-! The law -/
theorem ld_177 {f1 f2 f3 f4 : Int32} {a1 a2 a3 a4 a5 a6 a7 a8 a9 a10 a11 a12 : Nat → Int32} {m W V mc ms kc ks : Nat} {x z : Int32} (hm : m = 2 ∨ m = 3)
    (hc : ld_chk m (f1, f2, f3, f4, a1, a2, a3, a4, a5, a6, a7, a8, a9, a10, a11, a12) = true) (h0 : 0 < W) (h : W < 4096) (k0 : 0 < V) (k : V < 4096) (hz : ld_due (ld_cw W % m) (ld_cw V % m) = z) :
    wL_lawOf_177 (fun r _ => r = 1) mc ms x (nI m) (nI W) (nI V) z kc ks f1 f2 f3 f4 a1 a2 a3 a4 a5 a6 a7 a8 a9 a10 a11 a12 := by
  unfold wL_lawOf_177
  refine ld_diffL (m := m) (by omega) (by omega) hc h0 h k0 k ?_
  intro u hu
  obtain ⟨g1, g2, g3, g4, b1, b2, b3, b4, b5, b6, b7, b8, b9, b10, b11, b12⟩ := u
  refine br_t hz (ld_firstL hm x hu ?_)
  unfold ld_fw
  refine br_c (fun e0 => ?_) (fun e0 => br_c (fun e1 => ?_) (fun e1 => br_c (fun e2 => br_c (fun e3 => ?_) (fun e3 => ?_)) (fun e2 => ?_)))
  · rw [if_pos e0]
    exact br_t rfl rfl
  · rw [if_neg e0, if_pos e1]
    exact br_t rfl rfl
  · have em : m = 3 := (nI_eq (show m < 2 ^ 31 by omega) (show 3 < 2 ^ 31 by omega)).mp e3
    rw [if_neg e0, if_neg e1, if_pos e2, if_pos em]
    exact br_t rfl rfl
  · have em : ¬ m = 3 := fun e => e3 (by rw [e]; rfl)
    rw [if_neg e0, if_neg e1, if_pos e2, if_neg em]
    exact br_t rfl rfl
  · rw [if_neg e0, if_neg e1, if_neg e2]
    exact br_t rfl rfl
theorem ld_146 {f1 f2 f3 f4 : Int32} {a1 a2 a3 a4 a5 a6 a7 a8 a9 a10 a11 a12 : Nat → Int32} {m W V mc ms kc ks : Nat} {x z z' : Int32} (hm : m = 2 ∨ m = 3)
    (hc : ld_chk m (f1, f2, f3, f4, a1, a2, a3, a4, a5, a6, a7, a8, a9, a10, a11, a12) = true) (h0 : 0 < W) (h : W < 4096) (k0 : 0 < V) (k : V < 4096) (hz : z' = z) :
    wL_lawOf_146 (fun r _ => r = 1) mc ms x (nI m) (nI W) (nI V) (nI (ld_cw W % m)) (nI (ld_cw V % m)) z z' kc ks f1 f2 f3 f4 a1 a2 a3 a4 a5 a6 a7 a8 a9 a10 a11 a12 := by
  have hr : ld_cw W % m < m := Nat.mod_lt _ (by omega)
  have hs : ld_cw V % m < m := Nat.mod_lt _ (by omega)
  have T : ∀ z, ld_due (ld_cw W % m) (ld_cw V % m) = z → wL_lawOf_177 (fun r _ => r = 1) mc ms x (nI m) (nI W) (nI V) z kc ks f1 f2 f3 f4 a1 a2 a3 a4 a5 a6 a7 a8 a9 a10 a11 a12 := fun z e => ld_177 hm hc h0 h k0 k e
  unfold wL_lawOf_146
  unfold ld_due at T
  refine br_t hz (pk_eq (ld_cw W % m) (ld_cw V % m) (fun e => T 0 (if_pos e)) (fun e => pk_eq (ld_cw W % m) 0 (fun ea => T 1 ?_) (fun ea => pk_eq (ld_cw V % m) 0 (fun eb => T 1 ?_) (fun eb => T 3 ?_))))
  · rw [if_neg e, if_pos ea]
  · rw [if_neg e, if_neg ea, if_pos eb]
  · rw [if_neg e, if_neg ea, if_neg eb]
theorem ld_59 {f1 f2 f3 f4 : Int32} {a1 a2 a3 a4 a5 a6 a7 a8 a9 a10 a11 a12 : Nat → Int32} {m W V mc ms kc ks : Nat} {x z r : Int32} (hm : m = 2 ∨ m = 3)
    (h0 : 0 < W) (h : W < 4096) (k0 : 0 < V) (k : V < 4096) :
    ld_Im (ld_k1 m z r (f1, f2, f3, f4, a1, a2, a3, a4, a5, a6, a7, a8, a9, a10, a11, a12)) (wL_lawOf_59 (fun r _ => r = 1) mc ms x (nI m) (nI W) (nI V) z 3 4 kc ks f1 f2 f3 f4 a1 a2 a3 a4 a5 a6 a7 a8 a9 a10 a11 a12) := by
  have hm0 : 0 < m := by omega
  have hw := ld_cw_lt h0 h
  have hv := ld_cw_lt k0 k
  have hs : ld_cw V % m < m := Nat.mod_lt _ (by omega)
  unfold ld_k1 wL_lawOf_59
  refine ld_s_wpX_arrow (fun r ⟨f1, f2, f3, f4, a1, a2, a3, a4, a5, a6, a7, a8, a9, a10, a11, a12⟩ => ld_s_wpX_arrow (fun r ⟨f1, f2, f3, f4, a1, a2, a3, a4, a5, a6, a7, a8, a9, a10, a11, a12⟩ => ld_iIf (ld_s_wpX_good (fun r ⟨f1, f2, f3, f4, a1, a2, a3, a4, a5, a6, a7, a8, a9, a10, a11, a12⟩ => ld_iIf (ld_s_wpX_kinds (fun r ⟨f1, f2, f3, f4, a1, a2, a3, a4, a5, a6, a7, a8, a9, a10, a11, a12⟩ => ld_iIf (fun hc => ?_) ld_iF)) ld_iF)) ld_iF))
  refine ld_ones h0 h ⟨nI_ne0 hm0 (by omega), nm_r (pk_rem (by omega) hm0 (by omega)) ?_⟩
  refine ld_ones k0 k ⟨nI_ne0 hm0 (by omega), nm_r (pk_rem (by omega) hm0 (by omega)) ?_⟩
  refine ld_kind hm0 (by omega) hc h0 h (br_t rfl ?_)
  refine ld_ask hm0 (by omega) hc k0 k ?_
  refine pk_eq (ld_cw V % m) 0 (fun e => ?_) (fun e => ?_)
  · exact ld_146 hm hc h0 h k0 k (if_pos e)
  · exact ld_146 hm hc h0 h k0 k (if_neg e)
theorem ld_run {m W V : Nat} {z p0 p1 p2 p3 : Int32} (hm : m = 2 ∨ m = 3) (hz : nI m = 2 → z = 0) (hz' : ¬ nI m = 2 → z = 6) (hall : ld_all m z = true)
    (h0 : 0 < W) (h : W < 4096) (k0 : 0 < V) (k : V < 4096) (em : 2 + (p0 &&& 1) = nI m) (eW : 1 + (p1 &&& 4094) = nI W) (eV : 1 + (p2 &&& 4094) = nI V) :
    wpL_lawOf (fun r _ => r = 1) 13 243 () p0 p1 p2 p3 := by
  unfold wpL_lawOf
  refine ⟨by omega, by omega, 12, 227, by omega, by omega, ?_⟩
  unfold ld_all at hall
  refine ld_go hall (ld_s_wpX_init ?_)
  intro u hb
  obtain ⟨f1, f2, f3, f4, a1, a2, a3, a4, a5, a6, a7, a8, a9, a10, a11, a12⟩ := u
  unfold ld_k0 at hb
  refine nm_r em (nm_r eW (nm_r eV ?_))
  refine ld_go hb (ld_s_wpX_arrow ?_)
  intro r u hb'
  obtain ⟨f1, f2, f3, f4, a1, a2, a3, a4, a5, a6, a7, a8, a9, a10, a11, a12⟩ := u
  refine br_c (fun e => ?_) (fun e => ?_)
  · have t := hz e
    rw [t] at hb'
    exact ld_go hb' (ld_59 hm h0 h k0 k)
  · have t := hz' e
    rw [t] at hb'
    exact ld_go hb' (ld_59 hm h0 h k0 k)
theorem ld_lawOf (p0 p1 p2 p3 : Int32) : wpL_lawOf (fun r _ => r = 1) 13 243 () p0 p1 p2 p3 := by
  obtain ⟨W, h0, h, eW⟩ := ld_word p1
  obtain ⟨V, k0, k, eV⟩ := ld_word p2
  obtain ⟨j, hj, ej⟩ := pk_andE p0 (m := 1) 1 (by decide)
  have em : 2 + (p0 &&& 1) = nI (2 + j) := by
    rw [ej]
    exact nI_add 2 j
  have hj2 : j = 0 ∨ j = 1 := by omega
  rcases hj2 with e | e
  · rw [e] at em
    exact ld_run (m := 2) (Or.inl rfl) (fun _ => rfl) (fun g => absurd (by rfl) g) ld_all2 h0 h k0 k em eW eV
  · rw [e] at em
    exact ld_run (m := 3) (Or.inr rfl) (fun g => absurd g (by decide)) (fun _ => rfl) ld_all3 h0 h k0 k em eW eV
theorem ld_cell {post : Int32 → Prop} {L : Nat} {xs : Nat → Int32} (hL : L ≤ 4) (k : Nat) (hk : k < 4) (H : ∀ r, post r) : wpL_cellAt post L xs () (nI k) :=
  pk_le L k (fun _ => H _) (fun z => ⟨vp_in_nI z (by omega), H _⟩)
theorem i_vc (xs : Nat → Int32) (L : Nat) (hL : L ≤ 4) : wpL_law (fun r => r = 1) L xs := by
  unfold wpL_law
  exact ld_cell hL 0 (by omega) (fun r1 => ld_cell hL 1 (by omega) (fun r2 => ld_cell hL 2 (by omega) (fun r3 => ld_cell hL 3 (by omega) (fun r4 => ⟨13, 243, by omega, by omega, ld_lawOf r1 r2 r3 r4⟩))))
end
