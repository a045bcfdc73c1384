set_option maxRecDepth 100000
section GX3
variable {G : gG} {p : Program} {l : Launch} {e : Env} {R : Room} {s : State} {m : MethodId} {args : Array Value} {below : List Frame} {meth : Method} {c : Code} {cc : ByteArray} {nL : Nat} {own : String} {ret : Option FieldType} {Q : State → Prop} {M : gM} {k n pc : Nat} {L : List (Option Value)} {st : List Value}
/-! numbers known as Nats -/
theorem x_iaddN (C : gC G p e s m args meth c cc nL own ret) {a b pc : Nat} (d : decode cc pc = .ok (.iadd, 1)) (kk : gX G p l e R s m args below meth c nL Q M k n (pc + 1) L (.int (nI (a + b)) :: st)) : gX G p l e R s m args below meth c nL Q M k n pc L (.int (nI b) :: .int (nI a) :: st) := x_iadd C d (by rw [nI_add]; exact kk)
theorem x_imulN (C : gC G p e s m args meth c cc nL own ret) {a b pc : Nat} (d : decode cc pc = .ok (.imul, 1)) (kk : gX G p l e R s m args below meth c nL Q M k n (pc + 1) L (.int (nI (a * b)) :: st)) : gX G p l e R s m args below meth c nL Q M k n pc L (.int (nI b) :: .int (nI a) :: st) := x_imul C d (by rw [pk_mul]; exact kk)
theorem x_isubN (C : gC G p e s m args meth c cc nL own ret) {a b pc : Nat} (hb : b ≤ a) (d : decode cc pc = .ok (.isub, 1)) (kk : gX G p l e R s m args below meth c nL Q M k n (pc + 1) L (.int (nI (a - b)) :: st)) : gX G p l e R s m args below meth c nL Q M k n pc L (.int (nI b) :: .int (nI a) :: st) := x_isub C d (by rw [pk_sub hb]; exact kk)
theorem x_idivN (C : gC G p e s m args meth c cc nL own ret) {a b pc : Nat} (ha : a < 2147483648) (h0 : 0 < b) (hb : b < 2147483648) (d : decode cc pc = .ok (.idiv, 1)) (kk : gX G p l e R s m args below meth c nL Q M k n (pc + 1) L (.int (nI (a / b)) :: st)) : gX G p l e R s m args below meth c nL Q M k n pc L (.int (nI b) :: .int (nI a) :: st) := x_idiv C d (nI_ne0 h0 hb) (by rw [pk_div ha h0 hb]; exact kk)
theorem x_iremN (C : gC G p e s m args meth c cc nL own ret) {a b pc : Nat} (ha : a < 2147483648) (h0 : 0 < b) (hb : b < 2147483648) (d : decode cc pc = .ok (.irem, 1)) (kk : gX G p l e R s m args below meth c nL Q M k n (pc + 1) L (.int (nI (a % b)) :: st)) : gX G p l e R s m args below meth c nL Q M k n pc L (.int (nI b) :: .int (nI a) :: st) := x_irem C d (nI_ne0 h0 hb) (by rw [pk_rem ha h0 hb]; exact kk)
theorem x_iincN (C : gC G p e s m args meth c cc nL own ret) {i a z pc : Nat} {L' : List (Option Value)} (d : decode cc pc = .ok (.iinc i (Int.ofNat z), 3)) (hx : L[i]? = some (some (.int (nI a)))) (hL : gs1 L i (.int (nI (a + z))) L') (hn : Nat.ble (i + 1) nL = true) (kk : gX G p l e R s m args below meth c nL Q M k n (pc + 3) L' st) : gX G p l e R s m args below meth c nL Q M k n pc L st := x_iinc C d hx (by rw [← nI_add]; rfl) hL hn kk
theorem x_icmp_eqN (C : gC G p e s m args meth c cc nL own ret) {a b : Nat} {off : Int} {tgt pc : Nat} (ha : a < 2147483648) (hb : b < 2147483648) (d : decode cc pc = .ok (.if_icmp .eq off, 3)) (ht : (pc : Int) + off = (tgt : Int)) (kt : a = b → gX G p l e R s m args below meth c nL Q M k n tgt L st) (kf : ¬ a = b → gX G p l e R s m args below meth c nL Q M k n (pc + 3) L st) : gX G p l e R s m args below meth c nL Q M k n pc L (.int (nI b) :: .int (nI a) :: st) := by
  have e1 := nI_eq ha hb
  have e2 := nI_leI ha hb
  have e3 := nI_ltI ha hb
  have e4 := nI_leI hb ha
  have e5 := nI_ltI hb ha
  refine x_icmp_eq C d ht (fun c => kt ?_) (fun c => kf ?_)
  all_goals (first | (simp only [e1, e2, e3, e4, e5] at c; omega) | (simp only [e1, e2, e3, e4, e5] at c; exact c))
theorem x_if_eqN (C : gC G p e s m args meth c cc nL own ret) {a : Nat} {off : Int} {tgt pc : Nat} (ha : a < 2147483648) (d : decode cc pc = .ok (.ifCond .eq off, 3)) (ht : (pc : Int) + off = (tgt : Int)) (kt : a = 0 → gX G p l e R s m args below meth c nL Q M k n tgt L st) (kf : ¬ a = 0 → gX G p l e R s m args below meth c nL Q M k n (pc + 3) L st) : gX G p l e R s m args below meth c nL Q M k n pc L (.int (nI a) :: st) := by
  have hb : (0 : Nat) < 2147483648 := by omega
  have z : (0 : Int32) = nI 0 := nI_0.symm
  have e1 := nI_eq ha hb
  have e2 := nI_leI ha hb
  have e3 := nI_ltI ha hb
  have e4 := nI_leI hb ha
  have e5 := nI_ltI hb ha
  refine x_if_eq C d ht (fun c => kt ?_) (fun c => kf ?_)
  all_goals (rw [z] at c; first | (simp only [e1, e2, e3, e4, e5] at c; omega) | (simp only [e1, e2, e3, e4, e5] at c; exact c))
theorem x_if_eqT (C : gC G p e s m args meth c cc nL own ret) {x : Int32} {off : Int} {tgt pc : Nat} (c0 : x = 0) (d : decode cc pc = .ok (.ifCond .eq off, 3)) (ht : (pc : Int) + off = (tgt : Int)) (kk : gX G p l e R s m args below meth c nL Q M k n tgt L st) : gX G p l e R s m args below meth c nL Q M k n pc L (.int x :: st) := x_if_eq C d ht (fun _ => kk) (fun c => (by first | exact absurd c0 c | exact absurd c c0))
theorem x_if_eqF (C : gC G p e s m args meth c cc nL own ret) {x : Int32} {off : Int} {tgt pc : Nat} (c0 : ¬ x = 0) (d : decode cc pc = .ok (.ifCond .eq off, 3)) (ht : (pc : Int) + off = (tgt : Int)) (kk : gX G p l e R s m args below meth c nL Q M k n (pc + 3) L st) : gX G p l e R s m args below meth c nL Q M k n pc L (.int x :: st) := x_if_eq C d ht (fun c => (by first | exact absurd c0 c | exact absurd c c0)) (fun _ => kk)
theorem x_icmp_eqT (C : gC G p e s m args meth c cc nL own ret) {x y : Int32} {off : Int} {tgt pc : Nat} (c0 : x = y) (d : decode cc pc = .ok (.if_icmp .eq off, 3)) (ht : (pc : Int) + off = (tgt : Int)) (kk : gX G p l e R s m args below meth c nL Q M k n tgt L st) : gX G p l e R s m args below meth c nL Q M k n pc L (.int y :: .int x :: st) := x_icmp_eq C d ht (fun _ => kk) (fun c => (by first | exact absurd c0 c | exact absurd c c0))
theorem x_icmp_eqF (C : gC G p e s m args meth c cc nL own ret) {x y : Int32} {off : Int} {tgt pc : Nat} (c0 : ¬ x = y) (d : decode cc pc = .ok (.if_icmp .eq off, 3)) (ht : (pc : Int) + off = (tgt : Int)) (kk : gX G p l e R s m args below meth c nL Q M k n (pc + 3) L st) : gX G p l e R s m args below meth c nL Q M k n pc L (.int y :: .int x :: st) := x_icmp_eq C d ht (fun c => (by first | exact absurd c0 c | exact absurd c c0)) (fun _ => kk)
theorem x_icmp_neN (C : gC G p e s m args meth c cc nL own ret) {a b : Nat} {off : Int} {tgt pc : Nat} (ha : a < 2147483648) (hb : b < 2147483648) (d : decode cc pc = .ok (.if_icmp .ne off, 3)) (ht : (pc : Int) + off = (tgt : Int)) (kt : ¬ a = b → gX G p l e R s m args below meth c nL Q M k n tgt L st) (kf : a = b → gX G p l e R s m args below meth c nL Q M k n (pc + 3) L st) : gX G p l e R s m args below meth c nL Q M k n pc L (.int (nI b) :: .int (nI a) :: st) := by
  have e1 := nI_eq ha hb
  have e2 := nI_leI ha hb
  have e3 := nI_ltI ha hb
  have e4 := nI_leI hb ha
  have e5 := nI_ltI hb ha
  refine x_icmp_ne C d ht (fun c => kt ?_) (fun c => kf ?_)
  all_goals (first | (simp only [e1, e2, e3, e4, e5] at c; omega) | (simp only [e1, e2, e3, e4, e5] at c; exact c))
theorem x_if_neN (C : gC G p e s m args meth c cc nL own ret) {a : Nat} {off : Int} {tgt pc : Nat} (ha : a < 2147483648) (d : decode cc pc = .ok (.ifCond .ne off, 3)) (ht : (pc : Int) + off = (tgt : Int)) (kt : ¬ a = 0 → gX G p l e R s m args below meth c nL Q M k n tgt L st) (kf : a = 0 → gX G p l e R s m args below meth c nL Q M k n (pc + 3) L st) : gX G p l e R s m args below meth c nL Q M k n pc L (.int (nI a) :: st) := by
  have hb : (0 : Nat) < 2147483648 := by omega
  have z : (0 : Int32) = nI 0 := nI_0.symm
  have e1 := nI_eq ha hb
  have e2 := nI_leI ha hb
  have e3 := nI_ltI ha hb
  have e4 := nI_leI hb ha
  have e5 := nI_ltI hb ha
  refine x_if_ne C d ht (fun c => kt ?_) (fun c => kf ?_)
  all_goals (rw [z] at c; first | (simp only [e1, e2, e3, e4, e5] at c; omega) | (simp only [e1, e2, e3, e4, e5] at c; exact c))
theorem x_if_neT (C : gC G p e s m args meth c cc nL own ret) {x : Int32} {off : Int} {tgt pc : Nat} (c0 : ¬ x = 0) (d : decode cc pc = .ok (.ifCond .ne off, 3)) (ht : (pc : Int) + off = (tgt : Int)) (kk : gX G p l e R s m args below meth c nL Q M k n tgt L st) : gX G p l e R s m args below meth c nL Q M k n pc L (.int x :: st) := x_if_ne C d ht (fun _ => kk) (fun c => (by first | exact absurd c0 c | exact absurd c c0))
theorem x_if_neF (C : gC G p e s m args meth c cc nL own ret) {x : Int32} {off : Int} {tgt pc : Nat} (c0 : x = 0) (d : decode cc pc = .ok (.ifCond .ne off, 3)) (ht : (pc : Int) + off = (tgt : Int)) (kk : gX G p l e R s m args below meth c nL Q M k n (pc + 3) L st) : gX G p l e R s m args below meth c nL Q M k n pc L (.int x :: st) := x_if_ne C d ht (fun c => (by first | exact absurd c0 c | exact absurd c c0)) (fun _ => kk)
theorem x_icmp_neT (C : gC G p e s m args meth c cc nL own ret) {x y : Int32} {off : Int} {tgt pc : Nat} (c0 : ¬ x = y) (d : decode cc pc = .ok (.if_icmp .ne off, 3)) (ht : (pc : Int) + off = (tgt : Int)) (kk : gX G p l e R s m args below meth c nL Q M k n tgt L st) : gX G p l e R s m args below meth c nL Q M k n pc L (.int y :: .int x :: st) := x_icmp_ne C d ht (fun _ => kk) (fun c => (by first | exact absurd c0 c | exact absurd c c0))
theorem x_icmp_neF (C : gC G p e s m args meth c cc nL own ret) {x y : Int32} {off : Int} {tgt pc : Nat} (c0 : x = y) (d : decode cc pc = .ok (.if_icmp .ne off, 3)) (ht : (pc : Int) + off = (tgt : Int)) (kk : gX G p l e R s m args below meth c nL Q M k n (pc + 3) L st) : gX G p l e R s m args below meth c nL Q M k n pc L (.int y :: .int x :: st) := x_icmp_ne C d ht (fun c => (by first | exact absurd c0 c | exact absurd c c0)) (fun _ => kk)
theorem x_icmp_ltN (C : gC G p e s m args meth c cc nL own ret) {a b : Nat} {off : Int} {tgt pc : Nat} (ha : a < 2147483648) (hb : b < 2147483648) (d : decode cc pc = .ok (.if_icmp .lt off, 3)) (ht : (pc : Int) + off = (tgt : Int)) (kt : a < b → gX G p l e R s m args below meth c nL Q M k n tgt L st) (kf : b ≤ a → gX G p l e R s m args below meth c nL Q M k n (pc + 3) L st) : gX G p l e R s m args below meth c nL Q M k n pc L (.int (nI b) :: .int (nI a) :: st) := by
  have e1 := nI_eq ha hb
  have e2 := nI_leI ha hb
  have e3 := nI_ltI ha hb
  have e4 := nI_leI hb ha
  have e5 := nI_ltI hb ha
  refine x_icmp_lt C d ht (fun c => kt ?_) (fun c => kf ?_)
  all_goals (first | (simp only [e1, e2, e3, e4, e5] at c; omega) | (simp only [e1, e2, e3, e4, e5] at c; exact c))
theorem x_if_ltN (C : gC G p e s m args meth c cc nL own ret) {a : Nat} {off : Int} {tgt pc : Nat} (ha : a < 2147483648) (d : decode cc pc = .ok (.ifCond .lt off, 3)) (ht : (pc : Int) + off = (tgt : Int)) (kt : a < 0 → gX G p l e R s m args below meth c nL Q M k n tgt L st) (kf : 0 ≤ a → gX G p l e R s m args below meth c nL Q M k n (pc + 3) L st) : gX G p l e R s m args below meth c nL Q M k n pc L (.int (nI a) :: st) := by
  have hb : (0 : Nat) < 2147483648 := by omega
  have z : (0 : Int32) = nI 0 := nI_0.symm
  have e1 := nI_eq ha hb
  have e2 := nI_leI ha hb
  have e3 := nI_ltI ha hb
  have e4 := nI_leI hb ha
  have e5 := nI_ltI hb ha
  refine x_if_lt C d ht (fun c => kt ?_) (fun c => kf ?_)
  all_goals (rw [z] at c; first | (simp only [e1, e2, e3, e4, e5] at c; omega) | (simp only [e1, e2, e3, e4, e5] at c; exact c))
theorem x_if_ltT (C : gC G p e s m args meth c cc nL own ret) {x : Int32} {off : Int} {tgt pc : Nat} (c0 : x < 0) (d : decode cc pc = .ok (.ifCond .lt off, 3)) (ht : (pc : Int) + off = (tgt : Int)) (kk : gX G p l e R s m args below meth c nL Q M k n tgt L st) : gX G p l e R s m args below meth c nL Q M k n pc L (.int x :: st) := x_if_lt C d ht (fun _ => kk) (fun c => (by first | exact absurd c0 c | exact absurd c c0))
theorem x_if_ltF (C : gC G p e s m args meth c cc nL own ret) {x : Int32} {off : Int} {tgt pc : Nat} (c0 : ¬ x < 0) (d : decode cc pc = .ok (.ifCond .lt off, 3)) (ht : (pc : Int) + off = (tgt : Int)) (kk : gX G p l e R s m args below meth c nL Q M k n (pc + 3) L st) : gX G p l e R s m args below meth c nL Q M k n pc L (.int x :: st) := x_if_lt C d ht (fun c => (by first | exact absurd c0 c | exact absurd c c0)) (fun _ => kk)
theorem x_icmp_ltT (C : gC G p e s m args meth c cc nL own ret) {x y : Int32} {off : Int} {tgt pc : Nat} (c0 : x < y) (d : decode cc pc = .ok (.if_icmp .lt off, 3)) (ht : (pc : Int) + off = (tgt : Int)) (kk : gX G p l e R s m args below meth c nL Q M k n tgt L st) : gX G p l e R s m args below meth c nL Q M k n pc L (.int y :: .int x :: st) := x_icmp_lt C d ht (fun _ => kk) (fun c => (by first | exact absurd c0 c | exact absurd c c0))
theorem x_icmp_ltF (C : gC G p e s m args meth c cc nL own ret) {x y : Int32} {off : Int} {tgt pc : Nat} (c0 : ¬ x < y) (d : decode cc pc = .ok (.if_icmp .lt off, 3)) (ht : (pc : Int) + off = (tgt : Int)) (kk : gX G p l e R s m args below meth c nL Q M k n (pc + 3) L st) : gX G p l e R s m args below meth c nL Q M k n pc L (.int y :: .int x :: st) := x_icmp_lt C d ht (fun c => (by first | exact absurd c0 c | exact absurd c c0)) (fun _ => kk)
theorem x_icmp_geN (C : gC G p e s m args meth c cc nL own ret) {a b : Nat} {off : Int} {tgt pc : Nat} (ha : a < 2147483648) (hb : b < 2147483648) (d : decode cc pc = .ok (.if_icmp .ge off, 3)) (ht : (pc : Int) + off = (tgt : Int)) (kt : b ≤ a → gX G p l e R s m args below meth c nL Q M k n tgt L st) (kf : a < b → gX G p l e R s m args below meth c nL Q M k n (pc + 3) L st) : gX G p l e R s m args below meth c nL Q M k n pc L (.int (nI b) :: .int (nI a) :: st) := by
  have e1 := nI_eq ha hb
  have e2 := nI_leI ha hb
  have e3 := nI_ltI ha hb
  have e4 := nI_leI hb ha
  have e5 := nI_ltI hb ha
  refine x_icmp_ge C d ht (fun c => kt ?_) (fun c => kf ?_)
  all_goals (first | (simp only [e1, e2, e3, e4, e5] at c; omega) | (simp only [e1, e2, e3, e4, e5] at c; exact c))
theorem x_if_geN (C : gC G p e s m args meth c cc nL own ret) {a : Nat} {off : Int} {tgt pc : Nat} (ha : a < 2147483648) (d : decode cc pc = .ok (.ifCond .ge off, 3)) (ht : (pc : Int) + off = (tgt : Int)) (kt : 0 ≤ a → gX G p l e R s m args below meth c nL Q M k n tgt L st) (kf : a < 0 → gX G p l e R s m args below meth c nL Q M k n (pc + 3) L st) : gX G p l e R s m args below meth c nL Q M k n pc L (.int (nI a) :: st) := by
  have hb : (0 : Nat) < 2147483648 := by omega
  have z : (0 : Int32) = nI 0 := nI_0.symm
  have e1 := nI_eq ha hb
  have e2 := nI_leI ha hb
  have e3 := nI_ltI ha hb
  have e4 := nI_leI hb ha
  have e5 := nI_ltI hb ha
  refine x_if_ge C d ht (fun c => kt ?_) (fun c => kf ?_)
  all_goals (rw [z] at c; first | (simp only [e1, e2, e3, e4, e5] at c; omega) | (simp only [e1, e2, e3, e4, e5] at c; exact c))
theorem x_if_geT (C : gC G p e s m args meth c cc nL own ret) {x : Int32} {off : Int} {tgt pc : Nat} (c0 : 0 ≤ x) (d : decode cc pc = .ok (.ifCond .ge off, 3)) (ht : (pc : Int) + off = (tgt : Int)) (kk : gX G p l e R s m args below meth c nL Q M k n tgt L st) : gX G p l e R s m args below meth c nL Q M k n pc L (.int x :: st) := x_if_ge C d ht (fun _ => kk) (fun c => (by first | exact absurd c0 c | exact absurd c c0))
theorem x_if_geF (C : gC G p e s m args meth c cc nL own ret) {x : Int32} {off : Int} {tgt pc : Nat} (c0 : ¬ 0 ≤ x) (d : decode cc pc = .ok (.ifCond .ge off, 3)) (ht : (pc : Int) + off = (tgt : Int)) (kk : gX G p l e R s m args below meth c nL Q M k n (pc + 3) L st) : gX G p l e R s m args below meth c nL Q M k n pc L (.int x :: st) := x_if_ge C d ht (fun c => (by first | exact absurd c0 c | exact absurd c c0)) (fun _ => kk)
theorem x_icmp_geT (C : gC G p e s m args meth c cc nL own ret) {x y : Int32} {off : Int} {tgt pc : Nat} (c0 : y ≤ x) (d : decode cc pc = .ok (.if_icmp .ge off, 3)) (ht : (pc : Int) + off = (tgt : Int)) (kk : gX G p l e R s m args below meth c nL Q M k n tgt L st) : gX G p l e R s m args below meth c nL Q M k n pc L (.int y :: .int x :: st) := x_icmp_ge C d ht (fun _ => kk) (fun c => (by first | exact absurd c0 c | exact absurd c c0))
theorem x_icmp_geF (C : gC G p e s m args meth c cc nL own ret) {x y : Int32} {off : Int} {tgt pc : Nat} (c0 : ¬ y ≤ x) (d : decode cc pc = .ok (.if_icmp .ge off, 3)) (ht : (pc : Int) + off = (tgt : Int)) (kk : gX G p l e R s m args below meth c nL Q M k n (pc + 3) L st) : gX G p l e R s m args below meth c nL Q M k n pc L (.int y :: .int x :: st) := x_icmp_ge C d ht (fun c => (by first | exact absurd c0 c | exact absurd c c0)) (fun _ => kk)
theorem x_icmp_gtN (C : gC G p e s m args meth c cc nL own ret) {a b : Nat} {off : Int} {tgt pc : Nat} (ha : a < 2147483648) (hb : b < 2147483648) (d : decode cc pc = .ok (.if_icmp .gt off, 3)) (ht : (pc : Int) + off = (tgt : Int)) (kt : b < a → gX G p l e R s m args below meth c nL Q M k n tgt L st) (kf : a ≤ b → gX G p l e R s m args below meth c nL Q M k n (pc + 3) L st) : gX G p l e R s m args below meth c nL Q M k n pc L (.int (nI b) :: .int (nI a) :: st) := by
  have e1 := nI_eq ha hb
  have e2 := nI_leI ha hb
  have e3 := nI_ltI ha hb
  have e4 := nI_leI hb ha
  have e5 := nI_ltI hb ha
  refine x_icmp_gt C d ht (fun c => kt ?_) (fun c => kf ?_)
  all_goals (first | (simp only [e1, e2, e3, e4, e5] at c; omega) | (simp only [e1, e2, e3, e4, e5] at c; exact c))
theorem x_if_gtN (C : gC G p e s m args meth c cc nL own ret) {a : Nat} {off : Int} {tgt pc : Nat} (ha : a < 2147483648) (d : decode cc pc = .ok (.ifCond .gt off, 3)) (ht : (pc : Int) + off = (tgt : Int)) (kt : 0 < a → gX G p l e R s m args below meth c nL Q M k n tgt L st) (kf : a ≤ 0 → gX G p l e R s m args below meth c nL Q M k n (pc + 3) L st) : gX G p l e R s m args below meth c nL Q M k n pc L (.int (nI a) :: st) := by
  have hb : (0 : Nat) < 2147483648 := by omega
  have z : (0 : Int32) = nI 0 := nI_0.symm
  have e1 := nI_eq ha hb
  have e2 := nI_leI ha hb
  have e3 := nI_ltI ha hb
  have e4 := nI_leI hb ha
  have e5 := nI_ltI hb ha
  refine x_if_gt C d ht (fun c => kt ?_) (fun c => kf ?_)
  all_goals (rw [z] at c; first | (simp only [e1, e2, e3, e4, e5] at c; omega) | (simp only [e1, e2, e3, e4, e5] at c; exact c))
theorem x_if_gtT (C : gC G p e s m args meth c cc nL own ret) {x : Int32} {off : Int} {tgt pc : Nat} (c0 : 0 < x) (d : decode cc pc = .ok (.ifCond .gt off, 3)) (ht : (pc : Int) + off = (tgt : Int)) (kk : gX G p l e R s m args below meth c nL Q M k n tgt L st) : gX G p l e R s m args below meth c nL Q M k n pc L (.int x :: st) := x_if_gt C d ht (fun _ => kk) (fun c => (by first | exact absurd c0 c | exact absurd c c0))
theorem x_if_gtF (C : gC G p e s m args meth c cc nL own ret) {x : Int32} {off : Int} {tgt pc : Nat} (c0 : ¬ 0 < x) (d : decode cc pc = .ok (.ifCond .gt off, 3)) (ht : (pc : Int) + off = (tgt : Int)) (kk : gX G p l e R s m args below meth c nL Q M k n (pc + 3) L st) : gX G p l e R s m args below meth c nL Q M k n pc L (.int x :: st) := x_if_gt C d ht (fun c => (by first | exact absurd c0 c | exact absurd c c0)) (fun _ => kk)
theorem x_icmp_gtT (C : gC G p e s m args meth c cc nL own ret) {x y : Int32} {off : Int} {tgt pc : Nat} (c0 : y < x) (d : decode cc pc = .ok (.if_icmp .gt off, 3)) (ht : (pc : Int) + off = (tgt : Int)) (kk : gX G p l e R s m args below meth c nL Q M k n tgt L st) : gX G p l e R s m args below meth c nL Q M k n pc L (.int y :: .int x :: st) := x_icmp_gt C d ht (fun _ => kk) (fun c => (by first | exact absurd c0 c | exact absurd c c0))
theorem x_icmp_gtF (C : gC G p e s m args meth c cc nL own ret) {x y : Int32} {off : Int} {tgt pc : Nat} (c0 : ¬ y < x) (d : decode cc pc = .ok (.if_icmp .gt off, 3)) (ht : (pc : Int) + off = (tgt : Int)) (kk : gX G p l e R s m args below meth c nL Q M k n (pc + 3) L st) : gX G p l e R s m args below meth c nL Q M k n pc L (.int y :: .int x :: st) := x_icmp_gt C d ht (fun c => (by first | exact absurd c0 c | exact absurd c c0)) (fun _ => kk)
theorem x_icmp_leN (C : gC G p e s m args meth c cc nL own ret) {a b : Nat} {off : Int} {tgt pc : Nat} (ha : a < 2147483648) (hb : b < 2147483648) (d : decode cc pc = .ok (.if_icmp .le off, 3)) (ht : (pc : Int) + off = (tgt : Int)) (kt : a ≤ b → gX G p l e R s m args below meth c nL Q M k n tgt L st) (kf : b < a → gX G p l e R s m args below meth c nL Q M k n (pc + 3) L st) : gX G p l e R s m args below meth c nL Q M k n pc L (.int (nI b) :: .int (nI a) :: st) := by
  have e1 := nI_eq ha hb
  have e2 := nI_leI ha hb
  have e3 := nI_ltI ha hb
  have e4 := nI_leI hb ha
  have e5 := nI_ltI hb ha
  refine x_icmp_le C d ht (fun c => kt ?_) (fun c => kf ?_)
  all_goals (first | (simp only [e1, e2, e3, e4, e5] at c; omega) | (simp only [e1, e2, e3, e4, e5] at c; exact c))
theorem x_if_leN (C : gC G p e s m args meth c cc nL own ret) {a : Nat} {off : Int} {tgt pc : Nat} (ha : a < 2147483648) (d : decode cc pc = .ok (.ifCond .le off, 3)) (ht : (pc : Int) + off = (tgt : Int)) (kt : a ≤ 0 → gX G p l e R s m args below meth c nL Q M k n tgt L st) (kf : 0 < a → gX G p l e R s m args below meth c nL Q M k n (pc + 3) L st) : gX G p l e R s m args below meth c nL Q M k n pc L (.int (nI a) :: st) := by
  have hb : (0 : Nat) < 2147483648 := by omega
  have z : (0 : Int32) = nI 0 := nI_0.symm
  have e1 := nI_eq ha hb
  have e2 := nI_leI ha hb
  have e3 := nI_ltI ha hb
  have e4 := nI_leI hb ha
  have e5 := nI_ltI hb ha
  refine x_if_le C d ht (fun c => kt ?_) (fun c => kf ?_)
  all_goals (rw [z] at c; first | (simp only [e1, e2, e3, e4, e5] at c; omega) | (simp only [e1, e2, e3, e4, e5] at c; exact c))
theorem x_if_leT (C : gC G p e s m args meth c cc nL own ret) {x : Int32} {off : Int} {tgt pc : Nat} (c0 : x ≤ 0) (d : decode cc pc = .ok (.ifCond .le off, 3)) (ht : (pc : Int) + off = (tgt : Int)) (kk : gX G p l e R s m args below meth c nL Q M k n tgt L st) : gX G p l e R s m args below meth c nL Q M k n pc L (.int x :: st) := x_if_le C d ht (fun _ => kk) (fun c => (by first | exact absurd c0 c | exact absurd c c0))
theorem x_if_leF (C : gC G p e s m args meth c cc nL own ret) {x : Int32} {off : Int} {tgt pc : Nat} (c0 : ¬ x ≤ 0) (d : decode cc pc = .ok (.ifCond .le off, 3)) (ht : (pc : Int) + off = (tgt : Int)) (kk : gX G p l e R s m args below meth c nL Q M k n (pc + 3) L st) : gX G p l e R s m args below meth c nL Q M k n pc L (.int x :: st) := x_if_le C d ht (fun c => (by first | exact absurd c0 c | exact absurd c c0)) (fun _ => kk)
theorem x_icmp_leT (C : gC G p e s m args meth c cc nL own ret) {x y : Int32} {off : Int} {tgt pc : Nat} (c0 : x ≤ y) (d : decode cc pc = .ok (.if_icmp .le off, 3)) (ht : (pc : Int) + off = (tgt : Int)) (kk : gX G p l e R s m args below meth c nL Q M k n tgt L st) : gX G p l e R s m args below meth c nL Q M k n pc L (.int y :: .int x :: st) := x_icmp_le C d ht (fun _ => kk) (fun c => (by first | exact absurd c0 c | exact absurd c c0))
theorem x_icmp_leF (C : gC G p e s m args meth c cc nL own ret) {x y : Int32} {off : Int} {tgt pc : Nat} (c0 : ¬ x ≤ y) (d : decode cc pc = .ok (.if_icmp .le off, 3)) (ht : (pc : Int) + off = (tgt : Int)) (kk : gX G p l e R s m args below meth c nL Q M k n (pc + 3) L st) : gX G p l e R s m args below meth c nL Q M k n pc L (.int y :: .int x :: st) := x_icmp_le C d ht (fun c => (by first | exact absurd c0 c | exact absurd c c0)) (fun _ => kk)
theorem x_tableIn (C : gC G p e s m args meth c cc nL own ret) {dflt lo hi : Int} {offs : Array Int} {len : Nat} {x : Int32} {off : Int} {tgt pc : Nat} (d : decode cc pc = .ok (.tableswitch dflt lo hi offs, len)) (h1 : ¬ x.toInt < lo) (h2 : ¬ hi < x.toInt) (ho : offs[(x.toInt - lo).toNat]? = some off) (ht : (pc : Int) + off = (tgt : Int)) (kk : gX G p l e R s m args below meth c nL Q M k n tgt L st) : gX G p l e R s m args below meth c nL Q M k n pc L (.int x :: st) := fun H locs ls g1 g2 g3 => lv_tableIn C.2.1 C.2.2.1 d h1 h2 ho ht (kk H locs ls g1 g2 g3)
theorem x_tableOut (C : gC G p e s m args meth c cc nL own ret) {dflt lo hi : Int} {offs : Array Int} {len : Nat} {x : Int32} {tgt pc : Nat} (d : decode cc pc = .ok (.tableswitch dflt lo hi offs, len)) (h : x.toInt < lo ∨ hi < x.toInt) (ht : (pc : Int) + dflt = (tgt : Int)) (kk : gX G p l e R s m args below meth c nL Q M k n tgt L st) : gX G p l e R s m args below meth c nL Q M k n pc L (.int x :: st) := fun H locs ls g1 g2 g3 => lv_tableOut C.2.1 C.2.2.1 d h ht (kk H locs ls g1 g2 g3)
theorem x_lookup (C : gC G p e s m args meth c cc nL own ret) {dflt : Int} {ps : Array (Int × Int)} {len : Nat} {x : Int32} {off : Int} {tgt pc : Nat} (d : decode cc pc = .ok (.lookupswitch dflt ps, len)) (hp : (ps.toList.zip (ps.toList.drop 1)).all (fun (a, next) => a.1 < next.1) = true) (ho : Op.lookupswitch.offset ps.toList dflt x.toInt = off) (ht : (pc : Int) + off = (tgt : Int)) (kk : gX G p l e R s m args below meth c nL Q M k n tgt L st) : gX G p l e R s m args below meth c nL Q M k n pc L (.int x :: st) := fun H locs ls g1 g2 g3 => lv_lookup C.2.1 C.2.2.1 d hp ho ht (kk H locs ls g1 g2 g3)
theorem x_if_eqL (C : gC G p e s m args meth c cc nL own ret) {x y : Int64} {off : Int} {tgt pc : Nat} (d : decode cc pc = .ok (.ifCond .eq off, 3)) (ht : (pc : Int) + off = (tgt : Int)) (kt : x = y → gX G p l e R s m args below meth c nL Q M k n tgt L st) (kf : ¬ x = y → gX G p l e R s m args below meth c nL Q M k n (pc + 3) L st) : gX G p l e R s m args below meth c nL Q M k n pc L (.int (lg_cmp x y) :: st) := x_if_eq C d ht (fun c => kt ((lg_cmp_eq x y).mp c)) (fun c => kf (fun h => c ((lg_cmp_eq x y).mpr h)))
theorem x_if_neL (C : gC G p e s m args meth c cc nL own ret) {x y : Int64} {off : Int} {tgt pc : Nat} (d : decode cc pc = .ok (.ifCond .ne off, 3)) (ht : (pc : Int) + off = (tgt : Int)) (kt : ¬ x = y → gX G p l e R s m args below meth c nL Q M k n tgt L st) (kf : x = y → gX G p l e R s m args below meth c nL Q M k n (pc + 3) L st) : gX G p l e R s m args below meth c nL Q M k n pc L (.int (lg_cmp x y) :: st) := x_if_ne C d ht (fun c => kt (fun h => c ((lg_cmp_eq x y).mpr h))) (fun c => kf ((lg_cmp_eq x y).mp c))
theorem x_if_ltL (C : gC G p e s m args meth c cc nL own ret) {x y : Int64} {off : Int} {tgt pc : Nat} (d : decode cc pc = .ok (.ifCond .lt off, 3)) (ht : (pc : Int) + off = (tgt : Int)) (kt : x < y → gX G p l e R s m args below meth c nL Q M k n tgt L st) (kf : ¬ x < y → gX G p l e R s m args below meth c nL Q M k n (pc + 3) L st) : gX G p l e R s m args below meth c nL Q M k n pc L (.int (lg_cmp x y) :: st) := x_if_lt C d ht (fun c => kt ((lg_cmp_lt x y).mp c)) (fun c => kf (fun h => c ((lg_cmp_lt x y).mpr h)))
theorem x_if_geL (C : gC G p e s m args meth c cc nL own ret) {x y : Int64} {off : Int} {tgt pc : Nat} (d : decode cc pc = .ok (.ifCond .ge off, 3)) (ht : (pc : Int) + off = (tgt : Int)) (kt : y ≤ x → gX G p l e R s m args below meth c nL Q M k n tgt L st) (kf : ¬ y ≤ x → gX G p l e R s m args below meth c nL Q M k n (pc + 3) L st) : gX G p l e R s m args below meth c nL Q M k n pc L (.int (lg_cmp x y) :: st) := x_if_ge C d ht (fun c => kt ((lg_cmp_ge x y).mp c)) (fun c => kf (fun h => c ((lg_cmp_ge x y).mpr h)))
theorem x_if_gtL (C : gC G p e s m args meth c cc nL own ret) {x y : Int64} {off : Int} {tgt pc : Nat} (d : decode cc pc = .ok (.ifCond .gt off, 3)) (ht : (pc : Int) + off = (tgt : Int)) (kt : y < x → gX G p l e R s m args below meth c nL Q M k n tgt L st) (kf : ¬ y < x → gX G p l e R s m args below meth c nL Q M k n (pc + 3) L st) : gX G p l e R s m args below meth c nL Q M k n pc L (.int (lg_cmp x y) :: st) := x_if_gt C d ht (fun c => kt ((lg_cmp_gt x y).mp c)) (fun c => kf (fun h => c ((lg_cmp_gt x y).mpr h)))
theorem x_if_leL (C : gC G p e s m args meth c cc nL own ret) {x y : Int64} {off : Int} {tgt pc : Nat} (d : decode cc pc = .ok (.ifCond .le off, 3)) (ht : (pc : Int) + off = (tgt : Int)) (kt : x ≤ y → gX G p l e R s m args below meth c nL Q M k n tgt L st) (kf : ¬ x ≤ y → gX G p l e R s m args below meth c nL Q M k n (pc + 3) L st) : gX G p l e R s m args below meth c nL Q M k n pc L (.int (lg_cmp x y) :: st) := x_if_le C d ht (fun c => kt ((lg_cmp_le x y).mp c)) (fun c => kf (fun h => c ((lg_cmp_le x y).mpr h)))
/-- a counting loop: I k the state at the head, LL k the locals there -/
theorem x_loop {head E : Nat} (I : Nat → gM → Prop) (LL : Nat → List (Option Value)) (h0 : I 0 M) (step : ∀ (i : Nat) (M : gM), i ≤ E → I i M → (i < E → ∀ M', I (i + 1) M' → gX G p l e R s m args below meth c nL Q M' k n head (LL (i + 1)) []) → gX G p l e R s m args below meth c nL Q M k n head (LL i) []) : gX G p l e R s m args below meth c nL Q M k n head (LL 0) [] := by
  have key : ∀ (j i : Nat) (M : gM), i + j = E → I i M → gX G p l e R s m args below meth c nL Q M k n head (LL i) [] := by
    intro j
    induction j with
    | zero => intro i M hi hM; exact step i M (by omega) hM (fun h => by omega)
    | succ j ih => intro i M hi hM; exact step i M (by omega) hM (fun _ M' hM' => ih (i + 1) M' (by omega) hM')
  exact key E 0 M (by omega) h0
/-- a counting loop from a -/
theorem x_loopA {head E : Nat} (a : Nat) (ha : a ≤ E) (I : Nat → gM → Prop) (LL : Nat → List (Option Value)) (h0 : I a M) (step : ∀ (i : Nat) (M : gM), a ≤ i → i ≤ E → I i M → (i < E → ∀ M', I (i + 1) M' → gX G p l e R s m args below meth c nL Q M' k n head (LL (i + 1)) []) → gX G p l e R s m args below meth c nL Q M k n head (LL i) []) : gX G p l e R s m args below meth c nL Q M k n head (LL a) [] := by
  have key : ∀ (j i : Nat) (M : gM), a ≤ i → i + j = E → I i M → gX G p l e R s m args below meth c nL Q M k n head (LL i) [] := by
    intro j
    induction j with
    | zero => intro i M h1 hi hM; exact step i M h1 (by omega) hM (fun h => by omega)
    | succ j ih => intro i M h1 hi hM; exact step i M h1 (by omega) hM (fun _ M' hM' => ih (i + 1) M' (by omega) (by omega) hM')
  exact key (E - a) a M (Nat.le_refl _) (by omega) h0
/-- any loop, by a measure -/
theorem x_loopM {head : Nat} {S : Type} (I : S → gM → Prop) (LL : S → List (Option Value)) (μ : S → Nat) (s0 : S) (h0 : I s0 M) (step : ∀ (x : S) (M : gM), I x M → (∀ (x' : S) (M' : gM), μ x' < μ x → I x' M' → gX G p l e R s m args below meth c nL Q M' k n head (LL x') []) → gX G p l e R s m args below meth c nL Q M k n head (LL x) []) : gX G p l e R s m args below meth c nL Q M k n head (LL s0) [] := by
  have key : ∀ (N : Nat) (x : S) (M : gM), μ x < N → I x M → gX G p l e R s m args below meth c nL Q M k n head (LL x) [] := by
    intro N
    induction N with
    | zero => intro x M h; omega
    | succ N ih => intro x M h hM; exact step x M hM (fun x' M' h' hM' => ih x' M' (by omega) hM')
  exact key (μ s0 + 1) s0 M (by omega) h0
theorem x_loopS {head E : Nat} {α β : Type} (a : Nat) (ha : a ≤ E) (I : Nat → α → β → gM → Prop) (LL : Nat → α → β → List (Option Value)) (u0 : α) (v0 : β) (h0 : I a u0 v0 M) (step : ∀ (i : Nat) (u : α) (v : β) (M : gM), a ≤ i → i ≤ E → I i u v M → (i < E → ∀ u' v' M', I (i + 1) u' v' M' → gX G p l e R s m args below meth c nL Q M' k n head (LL (i + 1) u' v') []) → gX G p l e R s m args below meth c nL Q M k n head (LL i u v) []) : gX G p l e R s m args below meth c nL Q M k n head (LL a u0 v0) [] :=
  x_loopM (S := Nat × α × β) (fun x M => a ≤ x.1 ∧ x.1 ≤ E ∧ I x.1 x.2.1 x.2.2 M) (fun x => LL x.1 x.2.1 x.2.2) (fun x => E - x.1) (a, u0, v0) ⟨Nat.le_refl _, ha, h0⟩ (fun x M h rec => step x.1 x.2.1 x.2.2 M h.1 h.2.1 h.2.2 (fun hi u' v' M' hI => rec (x.1 + 1, u', v') M' (by show E - (x.1 + 1) < E - x.1; omega) ⟨by have := h.1; show a ≤ x.1 + 1; omega, hi, hI⟩))
theorem x_join {α : Type} {P : α → Prop} {LL : α → List (Option Value)} {ss : α → List Value} (pcJ : Nat) (J : ∀ a, P a → gX G p l e R s m args below meth c nL Q M k n pcJ (LL a) (ss a)) (body : (∀ a, P a → gX G p l e R s m args below meth c nL Q M k n pcJ (LL a) (ss a)) → gX G p l e R s m args below meth c nL Q M k n pc L st) : gX G p l e R s m args below meth c nL Q M k n pc L st := body J
theorem x_joinM {α : Type} {P : α → gM → Prop} {LL : α → List (Option Value)} {ss : α → List Value} (pcJ : Nat) (J : ∀ a M', P a M' → gX G p l e R s m args below meth c nL Q M' k n pcJ (LL a) (ss a)) (body : (∀ a M', P a M' → gX G p l e R s m args below meth c nL Q M' k n pcJ (LL a) (ss a)) → gX G p l e R s m args below meth c nL Q M k n pc L st) : gX G p l e R s m args below meth c nL Q M k n pc L st := body J
end GX3
theorem kc_m1 : Int32.ofInt (-1) = ((-1) : Int32) := by decide +kernel
theorem kc_0 : Int32.ofInt (0) = (nI 0 : Int32) := by decide +kernel
theorem kc_1 : Int32.ofInt (1) = (nI 1 : Int32) := by decide +kernel
theorem kc_2 : Int32.ofInt (2) = (nI 2 : Int32) := by decide +kernel
theorem kc_3 : Int32.ofInt (3) = (nI 3 : Int32) := by decide +kernel
theorem kc_4 : Int32.ofInt (4) = (nI 4 : Int32) := by decide +kernel
theorem kc_5 : Int32.ofInt (5) = (nI 5 : Int32) := by decide +kernel
theorem kb_m100 : (Int8.ofInt (-100)).toInt32 = ((-100) : Int32) := by decide +kernel
theorem kb_m10 : (Int8.ofInt (-10)).toInt32 = ((-10) : Int32) := by decide +kernel
theorem kb_m9 : (Int8.ofInt (-9)).toInt32 = ((-9) : Int32) := by decide +kernel
theorem kb_m3 : (Int8.ofInt (-3)).toInt32 = ((-3) : Int32) := by decide +kernel
theorem kb_m2 : (Int8.ofInt (-2)).toInt32 = ((-2) : Int32) := by decide +kernel
theorem kb_6 : (Int8.ofInt (6)).toInt32 = (nI 6 : Int32) := by decide +kernel
theorem kb_7 : (Int8.ofInt (7)).toInt32 = (nI 7 : Int32) := by decide +kernel
theorem kb_8 : (Int8.ofInt (8)).toInt32 = (nI 8 : Int32) := by decide +kernel
theorem kb_9 : (Int8.ofInt (9)).toInt32 = (nI 9 : Int32) := by decide +kernel
theorem kb_10 : (Int8.ofInt (10)).toInt32 = (nI 10 : Int32) := by decide +kernel
theorem kb_11 : (Int8.ofInt (11)).toInt32 = (nI 11 : Int32) := by decide +kernel
theorem kb_12 : (Int8.ofInt (12)).toInt32 = (nI 12 : Int32) := by decide +kernel
theorem kb_13 : (Int8.ofInt (13)).toInt32 = (nI 13 : Int32) := by decide +kernel
theorem kb_14 : (Int8.ofInt (14)).toInt32 = (nI 14 : Int32) := by decide +kernel
theorem kb_15 : (Int8.ofInt (15)).toInt32 = (nI 15 : Int32) := by decide +kernel
theorem kb_16 : (Int8.ofInt (16)).toInt32 = (nI 16 : Int32) := by decide +kernel
theorem kb_17 : (Int8.ofInt (17)).toInt32 = (nI 17 : Int32) := by decide +kernel
theorem kb_18 : (Int8.ofInt (18)).toInt32 = (nI 18 : Int32) := by decide +kernel
theorem kb_19 : (Int8.ofInt (19)).toInt32 = (nI 19 : Int32) := by decide +kernel
theorem kb_20 : (Int8.ofInt (20)).toInt32 = (nI 20 : Int32) := by decide +kernel
theorem kb_21 : (Int8.ofInt (21)).toInt32 = (nI 21 : Int32) := by decide +kernel
theorem kb_22 : (Int8.ofInt (22)).toInt32 = (nI 22 : Int32) := by decide +kernel
theorem kb_23 : (Int8.ofInt (23)).toInt32 = (nI 23 : Int32) := by decide +kernel
theorem kb_24 : (Int8.ofInt (24)).toInt32 = (nI 24 : Int32) := by decide +kernel
theorem kb_25 : (Int8.ofInt (25)).toInt32 = (nI 25 : Int32) := by decide +kernel
theorem kb_26 : (Int8.ofInt (26)).toInt32 = (nI 26 : Int32) := by decide +kernel
theorem kb_27 : (Int8.ofInt (27)).toInt32 = (nI 27 : Int32) := by decide +kernel
theorem kb_28 : (Int8.ofInt (28)).toInt32 = (nI 28 : Int32) := by decide +kernel
theorem kb_29 : (Int8.ofInt (29)).toInt32 = (nI 29 : Int32) := by decide +kernel
theorem kb_30 : (Int8.ofInt (30)).toInt32 = (nI 30 : Int32) := by decide +kernel
theorem kb_31 : (Int8.ofInt (31)).toInt32 = (nI 31 : Int32) := by decide +kernel
theorem kb_32 : (Int8.ofInt (32)).toInt32 = (nI 32 : Int32) := by decide +kernel
theorem kb_33 : (Int8.ofInt (33)).toInt32 = (nI 33 : Int32) := by decide +kernel
theorem kb_34 : (Int8.ofInt (34)).toInt32 = (nI 34 : Int32) := by decide +kernel
theorem kb_35 : (Int8.ofInt (35)).toInt32 = (nI 35 : Int32) := by decide +kernel
theorem kb_36 : (Int8.ofInt (36)).toInt32 = (nI 36 : Int32) := by decide +kernel
theorem kb_37 : (Int8.ofInt (37)).toInt32 = (nI 37 : Int32) := by decide +kernel
theorem kb_38 : (Int8.ofInt (38)).toInt32 = (nI 38 : Int32) := by decide +kernel
theorem kb_39 : (Int8.ofInt (39)).toInt32 = (nI 39 : Int32) := by decide +kernel
theorem kb_40 : (Int8.ofInt (40)).toInt32 = (nI 40 : Int32) := by decide +kernel
theorem kb_41 : (Int8.ofInt (41)).toInt32 = (nI 41 : Int32) := by decide +kernel
theorem kb_42 : (Int8.ofInt (42)).toInt32 = (nI 42 : Int32) := by decide +kernel
theorem kb_43 : (Int8.ofInt (43)).toInt32 = (nI 43 : Int32) := by decide +kernel
theorem kb_44 : (Int8.ofInt (44)).toInt32 = (nI 44 : Int32) := by decide +kernel
theorem kb_45 : (Int8.ofInt (45)).toInt32 = (nI 45 : Int32) := by decide +kernel
theorem kb_46 : (Int8.ofInt (46)).toInt32 = (nI 46 : Int32) := by decide +kernel
theorem kb_47 : (Int8.ofInt (47)).toInt32 = (nI 47 : Int32) := by decide +kernel
theorem kb_48 : (Int8.ofInt (48)).toInt32 = (nI 48 : Int32) := by decide +kernel
theorem kb_49 : (Int8.ofInt (49)).toInt32 = (nI 49 : Int32) := by decide +kernel
theorem kb_50 : (Int8.ofInt (50)).toInt32 = (nI 50 : Int32) := by decide +kernel
theorem kb_51 : (Int8.ofInt (51)).toInt32 = (nI 51 : Int32) := by decide +kernel
theorem kb_52 : (Int8.ofInt (52)).toInt32 = (nI 52 : Int32) := by decide +kernel
theorem kb_53 : (Int8.ofInt (53)).toInt32 = (nI 53 : Int32) := by decide +kernel
theorem kb_54 : (Int8.ofInt (54)).toInt32 = (nI 54 : Int32) := by decide +kernel
theorem kb_55 : (Int8.ofInt (55)).toInt32 = (nI 55 : Int32) := by decide +kernel
theorem kb_56 : (Int8.ofInt (56)).toInt32 = (nI 56 : Int32) := by decide +kernel
theorem kb_57 : (Int8.ofInt (57)).toInt32 = (nI 57 : Int32) := by decide +kernel
theorem kb_58 : (Int8.ofInt (58)).toInt32 = (nI 58 : Int32) := by decide +kernel
theorem kb_59 : (Int8.ofInt (59)).toInt32 = (nI 59 : Int32) := by decide +kernel
theorem kb_60 : (Int8.ofInt (60)).toInt32 = (nI 60 : Int32) := by decide +kernel
theorem kb_61 : (Int8.ofInt (61)).toInt32 = (nI 61 : Int32) := by decide +kernel
theorem kb_62 : (Int8.ofInt (62)).toInt32 = (nI 62 : Int32) := by decide +kernel
theorem kb_63 : (Int8.ofInt (63)).toInt32 = (nI 63 : Int32) := by decide +kernel
theorem kb_64 : (Int8.ofInt (64)).toInt32 = (nI 64 : Int32) := by decide +kernel
theorem kb_65 : (Int8.ofInt (65)).toInt32 = (nI 65 : Int32) := by decide +kernel
theorem kb_66 : (Int8.ofInt (66)).toInt32 = (nI 66 : Int32) := by decide +kernel
theorem kb_67 : (Int8.ofInt (67)).toInt32 = (nI 67 : Int32) := by decide +kernel
theorem kb_68 : (Int8.ofInt (68)).toInt32 = (nI 68 : Int32) := by decide +kernel
theorem kb_96 : (Int8.ofInt (96)).toInt32 = (nI 96 : Int32) := by decide +kernel
theorem kb_97 : (Int8.ofInt (97)).toInt32 = (nI 97 : Int32) := by decide +kernel
theorem kb_98 : (Int8.ofInt (98)).toInt32 = (nI 98 : Int32) := by decide +kernel
theorem kb_100 : (Int8.ofInt (100)).toInt32 = (nI 100 : Int32) := by decide +kernel
theorem kb_101 : (Int8.ofInt (101)).toInt32 = (nI 101 : Int32) := by decide +kernel
theorem kb_104 : (Int8.ofInt (104)).toInt32 = (nI 104 : Int32) := by decide +kernel
theorem kb_105 : (Int8.ofInt (105)).toInt32 = (nI 105 : Int32) := by decide +kernel
theorem kb_108 : (Int8.ofInt (108)).toInt32 = (nI 108 : Int32) := by decide +kernel
theorem kb_109 : (Int8.ofInt (109)).toInt32 = (nI 109 : Int32) := by decide +kernel
theorem kb_110 : (Int8.ofInt (110)).toInt32 = (nI 110 : Int32) := by decide +kernel
theorem kb_111 : (Int8.ofInt (111)).toInt32 = (nI 111 : Int32) := by decide +kernel
theorem kb_112 : (Int8.ofInt (112)).toInt32 = (nI 112 : Int32) := by decide +kernel
theorem kb_114 : (Int8.ofInt (114)).toInt32 = (nI 114 : Int32) := by decide +kernel
theorem kb_115 : (Int8.ofInt (115)).toInt32 = (nI 115 : Int32) := by decide +kernel
theorem kb_116 : (Int8.ofInt (116)).toInt32 = (nI 116 : Int32) := by decide +kernel
theorem kb_117 : (Int8.ofInt (117)).toInt32 = (nI 117 : Int32) := by decide +kernel
theorem kb_119 : (Int8.ofInt (119)).toInt32 = (nI 119 : Int32) := by decide +kernel
theorem kb_121 : (Int8.ofInt (121)).toInt32 = (nI 121 : Int32) := by decide +kernel
theorem kb_122 : (Int8.ofInt (122)).toInt32 = (nI 122 : Int32) := by decide +kernel
theorem kb_127 : (Int8.ofInt (127)).toInt32 = (nI 127 : Int32) := by decide +kernel
theorem ks_255 : (Int16.ofInt (255)).toInt32 = (nI 255 : Int32) := by decide +kernel
theorem ks_320 : (Int16.ofInt (320)).toInt32 = (nI 320 : Int32) := by decide +kernel
theorem ks_700 : (Int16.ofInt (700)).toInt32 = (nI 700 : Int32) := by decide +kernel
theorem ks_999 : (Int16.ofInt (999)).toInt32 = (nI 999 : Int32) := by decide +kernel
theorem ks_1000 : (Int16.ofInt (1000)).toInt32 = (nI 1000 : Int32) := by decide +kernel
theorem ks_1281 : (Int16.ofInt (1281)).toInt32 = (nI 1281 : Int32) := by decide +kernel
theorem ks_1289 : (Int16.ofInt (1289)).toInt32 = (nI 1289 : Int32) := by decide +kernel
theorem ks_1545 : (Int16.ofInt (1545)).toInt32 = (nI 1545 : Int32) := by decide +kernel
theorem ks_1801 : (Int16.ofInt (1801)).toInt32 = (nI 1801 : Int32) := by decide +kernel
theorem ks_1865 : (Int16.ofInt (1865)).toInt32 = (nI 1865 : Int32) := by decide +kernel
theorem ks_1866 : (Int16.ofInt (1866)).toInt32 = (nI 1866 : Int32) := by decide +kernel
theorem ks_1867 : (Int16.ofInt (1867)).toInt32 = (nI 1867 : Int32) := by decide +kernel
theorem ks_1868 : (Int16.ofInt (1868)).toInt32 = (nI 1868 : Int32) := by decide +kernel
theorem ks_1869 : (Int16.ofInt (1869)).toInt32 = (nI 1869 : Int32) := by decide +kernel
theorem ks_1870 : (Int16.ofInt (1870)).toInt32 = (nI 1870 : Int32) := by decide +kernel
theorem ks_1871 : (Int16.ofInt (1871)).toInt32 = (nI 1871 : Int32) := by decide +kernel
theorem ks_1872 : (Int16.ofInt (1872)).toInt32 = (nI 1872 : Int32) := by decide +kernel
theorem ks_2068 : (Int16.ofInt (2068)).toInt32 = (nI 2068 : Int32) := by decide +kernel
theorem ks_2084 : (Int16.ofInt (2084)).toInt32 = (nI 2084 : Int32) := by decide +kernel
theorem ks_2468 : (Int16.ofInt (2468)).toInt32 = (nI 2468 : Int32) := by decide +kernel
theorem ks_9999 : (Int16.ofInt (9999)).toInt32 = (nI 9999 : Int32) := by decide +kernel
theorem ks_10000 : (Int16.ofInt (10000)).toInt32 = (nI 10000 : Int32) := by decide +kernel
theorem ks_12345 : (Int16.ofInt (12345)).toInt32 = (nI 12345 : Int32) := by decide +kernel
