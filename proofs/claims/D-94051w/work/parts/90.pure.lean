/-! THE PLAIN LAW (under way) -/
theorem pure_law (n : Nat) (xs : Nat → Int32) (K : gK) (qo : Nat) (hn : n ≤ 448) : ∃ N k : Nat, B_law_23 K n xs qo N k 960 0 w0x w0m [(qo, .inl (K.2.1 1, 1, .inr (.inl (fun _ => 0))))] := sorry
