section
theorem zz_a : True := trivial
end
section
theorem zz_b : True := trivial
end
